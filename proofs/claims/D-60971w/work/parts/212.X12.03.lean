/-! PascalHouseModel, walked (4) -/
set_option maxRecDepth 100000 in
theorem dX12_checkBlock_0 : decode cX12_checkBlock 0 = .ok (.aload_n 0, 1) := by decide +kernel
set_option maxRecDepth 100000 in
theorem dX12_checkBlock_1 : decode cX12_checkBlock 1 = .ok (.invokevirtual 707, 3) := by decide +kernel
set_option maxRecDepth 100000 in
theorem dX12_checkBlock_4 : decode cX12_checkBlock 4 = .ok (.astore_n 3, 1) := by decide +kernel
set_option maxRecDepth 100000 in
theorem dX12_checkBlock_5 : decode cX12_checkBlock 5 = .ok (.aload_n 0, 1) := by decide +kernel
set_option maxRecDepth 100000 in
theorem dX12_checkBlock_6 : decode cX12_checkBlock 6 = .ok (.getfield 73, 3) := by decide +kernel
set_option maxRecDepth 100000 in
theorem dX12_checkBlock_9 : decode cX12_checkBlock 9 = .ok (.aload_n 0, 1) := by decide +kernel
set_option maxRecDepth 100000 in
theorem dX12_checkBlock_10 : decode cX12_checkBlock 10 = .ok (.getfield 73, 3) := by decide +kernel
set_option maxRecDepth 100000 in
theorem dX12_checkBlock_13 : decode cX12_checkBlock 13 = .ok (.iload_n 1, 1) := by decide +kernel
set_option maxRecDepth 100000 in
theorem dX12_checkBlock_14 : decode cX12_checkBlock 14 = .ok (.iaload, 1) := by decide +kernel
set_option maxRecDepth 100000 in
theorem dX12_checkBlock_15 : decode cX12_checkBlock 15 = .ok (.iaload, 1) := by decide +kernel
set_option maxRecDepth 100000 in
theorem dX12_checkBlock_16 : decode cX12_checkBlock 16 = .ok (.istore 4, 2) := by decide +kernel
set_option maxRecDepth 100000 in
theorem dX12_checkBlock_18 : decode cX12_checkBlock 18 = .ok (.iload 4, 2) := by decide +kernel
set_option maxRecDepth 100000 in
theorem dX12_checkBlock_20 : decode cX12_checkBlock 20 = .ok (.iconst (-1), 1) := by decide +kernel
set_option maxRecDepth 100000 in
theorem dX12_checkBlock_21 : decode cX12_checkBlock 21 = .ok (.if_icmp .eq 89, 3) := by decide +kernel
set_option maxRecDepth 100000 in
theorem dX12_checkBlock_24 : decode cX12_checkBlock 24 = .ok (.aload_n 0, 1) := by decide +kernel
set_option maxRecDepth 100000 in
theorem dX12_checkBlock_25 : decode cX12_checkBlock 25 = .ok (.getfield 32, 3) := by decide +kernel
set_option maxRecDepth 100000 in
theorem dX12_checkBlock_28 : decode cX12_checkBlock 28 = .ok (.aload_n 0, 1) := by decide +kernel
set_option maxRecDepth 100000 in
theorem dX12_checkBlock_29 : decode cX12_checkBlock 29 = .ok (.getfield 70, 3) := by decide +kernel
set_option maxRecDepth 100000 in
theorem dX12_checkBlock_32 : decode cX12_checkBlock 32 = .ok (.iload 4, 2) := by decide +kernel
set_option maxRecDepth 100000 in
theorem dX12_checkBlock_34 : decode cX12_checkBlock 34 = .ok (.iaload, 1) := by decide +kernel
set_option maxRecDepth 100000 in
theorem dX12_checkBlock_35 : decode cX12_checkBlock 35 = .ok (.iaload, 1) := by decide +kernel
set_option maxRecDepth 100000 in
theorem dX12_checkBlock_36 : decode cX12_checkBlock 36 = .ok (.istore 5, 2) := by decide +kernel
set_option maxRecDepth 100000 in
theorem dX12_checkBlock_38 : decode cX12_checkBlock 38 = .ok (.iload 5, 2) := by decide +kernel
set_option maxRecDepth 100000 in
theorem dX12_checkBlock_40 : decode cX12_checkBlock 40 = .ok (.sipush 9999, 3) := by decide +kernel
set_option maxRecDepth 100000 in
theorem dX12_checkBlock_43 : decode cX12_checkBlock 43 = .ok (.if_icmp .le 16, 3) := by decide +kernel
set_option maxRecDepth 100000 in
theorem dX12_checkBlock_46 : decode cX12_checkBlock 46 = .ok (.aload_n 0, 1) := by decide +kernel
set_option maxRecDepth 100000 in
theorem dX12_checkBlock_47 : decode cX12_checkBlock 47 = .ok (.bipush 12, 2) := by decide +kernel
set_option maxRecDepth 100000 in
theorem dX12_checkBlock_49 : decode cX12_checkBlock 49 = .ok (.aload_n 0, 1) := by decide +kernel
set_option maxRecDepth 100000 in
theorem dX12_checkBlock_50 : decode cX12_checkBlock 50 = .ok (.getfield 70, 3) := by decide +kernel
set_option maxRecDepth 100000 in
theorem dX12_checkBlock_53 : decode cX12_checkBlock 53 = .ok (.iload 4, 2) := by decide +kernel
set_option maxRecDepth 100000 in
theorem dX12_checkBlock_55 : decode cX12_checkBlock 55 = .ok (.iaload, 1) := by decide +kernel
set_option maxRecDepth 100000 in
theorem dX12_checkBlock_56 : decode cX12_checkBlock 56 = .ok (.invokevirtual 570, 3) := by decide +kernel
set_option maxRecDepth 100000 in
theorem dX12_checkBlock_59 : decode cX12_checkBlock 59 = .ok (.aload_n 0, 1) := by decide +kernel
set_option maxRecDepth 100000 in
theorem dX12_checkBlock_60 : decode cX12_checkBlock 60 = .ok (.aload_n 3, 1) := by decide +kernel
set_option maxRecDepth 100000 in
theorem dX12_checkBlock_61 : decode cX12_checkBlock 61 = .ok (.iload 5, 2) := by decide +kernel
set_option maxRecDepth 100000 in
theorem dX12_checkBlock_63 : decode cX12_checkBlock 63 = .ok (.invokevirtual 749, 3) := by decide +kernel
set_option maxRecDepth 100000 in
theorem dX12_checkBlock_66 : decode cX12_checkBlock 66 = .ok (.ifnull 15, 3) := by decide +kernel
set_option maxRecDepth 100000 in
theorem dX12_checkBlock_69 : decode cX12_checkBlock 69 = .ok (.aload_n 0, 1) := by decide +kernel
set_option maxRecDepth 100000 in
theorem dX12_checkBlock_70 : decode cX12_checkBlock 70 = .ok (.iconst 5, 1) := by decide +kernel
set_option maxRecDepth 100000 in
theorem dX12_checkBlock_71 : decode cX12_checkBlock 71 = .ok (.aload_n 0, 1) := by decide +kernel
set_option maxRecDepth 100000 in
theorem dX12_checkBlock_72 : decode cX12_checkBlock 72 = .ok (.getfield 70, 3) := by decide +kernel
set_option maxRecDepth 100000 in
theorem dX12_checkBlock_75 : decode cX12_checkBlock 75 = .ok (.iload 4, 2) := by decide +kernel
set_option maxRecDepth 100000 in
theorem dX12_checkBlock_77 : decode cX12_checkBlock 77 = .ok (.iaload, 1) := by decide +kernel
set_option maxRecDepth 100000 in
theorem dX12_checkBlock_78 : decode cX12_checkBlock 78 = .ok (.invokevirtual 570, 3) := by decide +kernel
set_option maxRecDepth 100000 in
theorem dX12_checkBlock_81 : decode cX12_checkBlock 81 = .ok (.aload_n 3, 1) := by decide +kernel
set_option maxRecDepth 100000 in
theorem dX12_checkBlock_82 : decode cX12_checkBlock 82 = .ok (.getfield 687, 3) := by decide +kernel
set_option maxRecDepth 100000 in
theorem dX12_checkBlock_85 : decode cX12_checkBlock 85 = .ok (.new 690, 3) := by decide +kernel
set_option maxRecDepth 100000 in
theorem dX12_checkBlock_88 : decode cX12_checkBlock 88 = .ok (.dup, 1) := by decide +kernel
set_option maxRecDepth 100000 in
theorem dX12_checkBlock_89 : decode cX12_checkBlock 89 = .ok (.iload 5, 2) := by decide +kernel
set_option maxRecDepth 100000 in
theorem dX12_checkBlock_91 : decode cX12_checkBlock 91 = .ok (.invokespecial 753, 3) := by decide +kernel
set_option maxRecDepth 100000 in
theorem dX12_checkBlock_94 : decode cX12_checkBlock 94 = .ok (.invokevirtual 579, 3) := by decide +kernel
set_option maxRecDepth 100000 in
theorem dX12_checkBlock_97 : decode cX12_checkBlock 97 = .ok (.pop, 1) := by decide +kernel
set_option maxRecDepth 100000 in
theorem dX12_checkBlock_98 : decode cX12_checkBlock 98 = .ok (.aload_n 0, 1) := by decide +kernel
set_option maxRecDepth 100000 in
theorem dX12_checkBlock_99 : decode cX12_checkBlock 99 = .ok (.getfield 79, 3) := by decide +kernel
set_option maxRecDepth 100000 in
theorem dX12_checkBlock_102 : decode cX12_checkBlock 102 = .ok (.iload 4, 2) := by decide +kernel
set_option maxRecDepth 100000 in
theorem dX12_checkBlock_104 : decode cX12_checkBlock 104 = .ok (.iaload, 1) := by decide +kernel
set_option maxRecDepth 100000 in
theorem dX12_checkBlock_105 : decode cX12_checkBlock 105 = .ok (.istore 4, 2) := by decide +kernel
set_option maxRecDepth 100000 in
theorem dX12_checkBlock_107 : decode cX12_checkBlock 107 = .ok (.goto (-89), 3) := by decide +kernel
set_option maxRecDepth 100000 in
theorem dX12_checkBlock_110 : decode cX12_checkBlock 110 = .ok (.aload_n 0, 1) := by decide +kernel
set_option maxRecDepth 100000 in
theorem dX12_checkBlock_111 : decode cX12_checkBlock 111 = .ok (.getfield 73, 3) := by decide +kernel
set_option maxRecDepth 100000 in
theorem dX12_checkBlock_114 : decode cX12_checkBlock 114 = .ok (.aload_n 0, 1) := by decide +kernel
set_option maxRecDepth 100000 in
theorem dX12_checkBlock_115 : decode cX12_checkBlock 115 = .ok (.iload_n 1, 1) := by decide +kernel
set_option maxRecDepth 100000 in
theorem dX12_checkBlock_116 : decode cX12_checkBlock 116 = .ok (.iconst 1, 1) := by decide +kernel
set_option maxRecDepth 100000 in
theorem dX12_checkBlock_117 : decode cX12_checkBlock 117 = .ok (.invokevirtual 734, 3) := by decide +kernel
set_option maxRecDepth 100000 in
theorem dX12_checkBlock_120 : decode cX12_checkBlock 120 = .ok (.iaload, 1) := by decide +kernel
set_option maxRecDepth 100000 in
theorem dX12_checkBlock_121 : decode cX12_checkBlock 121 = .ok (.istore 4, 2) := by decide +kernel
set_option maxRecDepth 100000 in
theorem dX12_checkBlock_123 : decode cX12_checkBlock 123 = .ok (.iload 4, 2) := by decide +kernel
set_option maxRecDepth 100000 in
theorem dX12_checkBlock_125 : decode cX12_checkBlock 125 = .ok (.iconst (-1), 1) := by decide +kernel
set_option maxRecDepth 100000 in
theorem dX12_checkBlock_126 : decode cX12_checkBlock 126 = .ok (.if_icmp .eq 96, 3) := by decide +kernel
set_option maxRecDepth 100000 in
theorem dX12_checkBlock_129 : decode cX12_checkBlock 129 = .ok (.aload_n 0, 1) := by decide +kernel
set_option maxRecDepth 100000 in
theorem dX12_checkBlock_130 : decode cX12_checkBlock 130 = .ok (.aload_n 0, 1) := by decide +kernel
set_option maxRecDepth 100000 in
theorem dX12_checkBlock_131 : decode cX12_checkBlock 131 = .ok (.getfield 73, 3) := by decide +kernel
set_option maxRecDepth 100000 in
theorem dX12_checkBlock_134 : decode cX12_checkBlock 134 = .ok (.iload 4, 2) := by decide +kernel
set_option maxRecDepth 100000 in
theorem dX12_checkBlock_136 : decode cX12_checkBlock 136 = .ok (.iaload, 1) := by decide +kernel
set_option maxRecDepth 100000 in
theorem dX12_checkBlock_137 : decode cX12_checkBlock 137 = .ok (.invokevirtual 754, 3) := by decide +kernel
set_option maxRecDepth 100000 in
theorem dX12_checkBlock_140 : decode cX12_checkBlock 140 = .ok (.aload_n 0, 1) := by decide +kernel
set_option maxRecDepth 100000 in
theorem dX12_checkBlock_141 : decode cX12_checkBlock 141 = .ok (.getfield 757, 3) := by decide +kernel
set_option maxRecDepth 100000 in
theorem dX12_checkBlock_144 : decode cX12_checkBlock 144 = .ok (.astore 5, 2) := by decide +kernel
set_option maxRecDepth 100000 in
theorem dX12_checkBlock_146 : decode cX12_checkBlock 146 = .ok (.aload_n 0, 1) := by decide +kernel
set_option maxRecDepth 100000 in
theorem dX12_checkBlock_147 : decode cX12_checkBlock 147 = .ok (.getfield 760, 3) := by decide +kernel
set_option maxRecDepth 100000 in
theorem dX12_checkBlock_150 : decode cX12_checkBlock 150 = .ok (.lstore 6, 2) := by decide +kernel
set_option maxRecDepth 100000 in
theorem dX12_checkBlock_152 : decode cX12_checkBlock 152 = .ok (.aload_n 0, 1) := by decide +kernel
set_option maxRecDepth 100000 in
theorem dX12_checkBlock_153 : decode cX12_checkBlock 153 = .ok (.getfield 763, 3) := by decide +kernel
set_option maxRecDepth 100000 in
theorem dX12_checkBlock_156 : decode cX12_checkBlock 156 = .ok (.dstore 8, 2) := by decide +kernel
set_option maxRecDepth 100000 in
theorem dX12_checkBlock_158 : decode cX12_checkBlock 158 = .ok (.aload_n 0, 1) := by decide +kernel
set_option maxRecDepth 100000 in
theorem dX12_checkBlock_159 : decode cX12_checkBlock 159 = .ok (.getfield 767, 3) := by decide +kernel
set_option maxRecDepth 100000 in
theorem dX12_checkBlock_162 : decode cX12_checkBlock 162 = .ok (.istore 10, 2) := by decide +kernel
set_option maxRecDepth 100000 in
theorem dX12_checkBlock_164 : decode cX12_checkBlock 164 = .ok (.aload_n 0, 1) := by decide +kernel
set_option maxRecDepth 100000 in
theorem dX12_checkBlock_165 : decode cX12_checkBlock 165 = .ok (.iconst 1, 1) := by decide +kernel
set_option maxRecDepth 100000 in
theorem dX12_checkBlock_166 : decode cX12_checkBlock 166 = .ok (.aload_n 0, 1) := by decide +kernel
set_option maxRecDepth 100000 in
theorem dX12_checkBlock_167 : decode cX12_checkBlock 167 = .ok (.getfield 70, 3) := by decide +kernel
set_option maxRecDepth 100000 in
theorem dX12_checkBlock_170 : decode cX12_checkBlock 170 = .ok (.iload 4, 2) := by decide +kernel
set_option maxRecDepth 100000 in
theorem dX12_checkBlock_172 : decode cX12_checkBlock 172 = .ok (.iaload, 1) := by decide +kernel
set_option maxRecDepth 100000 in
theorem dX12_checkBlock_173 : decode cX12_checkBlock 173 = .ok (.aload_n 0, 1) := by decide +kernel
set_option maxRecDepth 100000 in
theorem dX12_checkBlock_174 : decode cX12_checkBlock 174 = .ok (.invokevirtual 694, 3) := by decide +kernel
set_option maxRecDepth 100000 in
theorem dX12_checkBlock_177 : decode cX12_checkBlock 177 = .ok (.invokevirtual 698, 3) := by decide +kernel
set_option maxRecDepth 100000 in
theorem dX12_checkBlock_180 : decode cX12_checkBlock 180 = .ok (.astore 11, 2) := by decide +kernel
set_option maxRecDepth 100000 in
theorem dX12_checkBlock_182 : decode cX12_checkBlock 182 = .ok (.aload 11, 2) := by decide +kernel
set_option maxRecDepth 100000 in
theorem dX12_checkBlock_184 : decode cX12_checkBlock 184 = .ok (.aload 5, 2) := by decide +kernel
set_option maxRecDepth 100000 in
theorem dX12_checkBlock_186 : decode cX12_checkBlock 186 = .ok (.putfield 612, 3) := by decide +kernel
set_option maxRecDepth 100000 in
theorem dX12_checkBlock_189 : decode cX12_checkBlock 189 = .ok (.aload 11, 2) := by decide +kernel
set_option maxRecDepth 100000 in
theorem dX12_checkBlock_191 : decode cX12_checkBlock 191 = .ok (.lload 6, 2) := by decide +kernel
set_option maxRecDepth 100000 in
theorem dX12_checkBlock_193 : decode cX12_checkBlock 193 = .ok (.putfield 624, 3) := by decide +kernel
set_option maxRecDepth 100000 in
theorem dX12_checkBlock_196 : decode cX12_checkBlock 196 = .ok (.aload 11, 2) := by decide +kernel
set_option maxRecDepth 100000 in
theorem dX12_checkBlock_198 : decode cX12_checkBlock 198 = .ok (.dload 8, 2) := by decide +kernel
set_option maxRecDepth 100000 in
theorem dX12_checkBlock_200 : decode cX12_checkBlock 200 = .ok (.putfield 770, 3) := by decide +kernel
set_option maxRecDepth 100000 in
theorem dX12_checkBlock_203 : decode cX12_checkBlock 203 = .ok (.aload 11, 2) := by decide +kernel
set_option maxRecDepth 100000 in
theorem dX12_checkBlock_205 : decode cX12_checkBlock 205 = .ok (.iload 10, 2) := by decide +kernel
set_option maxRecDepth 100000 in
theorem dX12_checkBlock_207 : decode cX12_checkBlock 207 = .ok (.putfield 772, 3) := by decide +kernel
set_option maxRecDepth 100000 in
theorem dX12_checkBlock_210 : decode cX12_checkBlock 210 = .ok (.aload_n 0, 1) := by decide +kernel
set_option maxRecDepth 100000 in
theorem dX12_checkBlock_211 : decode cX12_checkBlock 211 = .ok (.getfield 79, 3) := by decide +kernel
set_option maxRecDepth 100000 in
theorem dX12_checkBlock_214 : decode cX12_checkBlock 214 = .ok (.iload 4, 2) := by decide +kernel
set_option maxRecDepth 100000 in
theorem dX12_checkBlock_216 : decode cX12_checkBlock 216 = .ok (.iaload, 1) := by decide +kernel
set_option maxRecDepth 100000 in
theorem dX12_checkBlock_217 : decode cX12_checkBlock 217 = .ok (.istore 4, 2) := by decide +kernel
set_option maxRecDepth 100000 in
theorem dX12_checkBlock_219 : decode cX12_checkBlock 219 = .ok (.goto (-96), 3) := by decide +kernel
set_option maxRecDepth 100000 in
theorem dX12_checkBlock_222 : decode cX12_checkBlock 222 = .ok (.aload_n 0, 1) := by decide +kernel
set_option maxRecDepth 100000 in
theorem dX12_checkBlock_223 : decode cX12_checkBlock 223 = .ok (.iconst 1, 1) := by decide +kernel
set_option maxRecDepth 100000 in
theorem dX12_checkBlock_224 : decode cX12_checkBlock 224 = .ok (.putfield 773, 3) := by decide +kernel
set_option maxRecDepth 100000 in
theorem dX12_checkBlock_227 : decode cX12_checkBlock 227 = .ok (.aload_n 0, 1) := by decide +kernel
set_option maxRecDepth 100000 in
theorem dX12_checkBlock_228 : decode cX12_checkBlock 228 = .ok (.getfield 73, 3) := by decide +kernel
set_option maxRecDepth 100000 in
theorem dX12_checkBlock_231 : decode cX12_checkBlock 231 = .ok (.aload_n 0, 1) := by decide +kernel
set_option maxRecDepth 100000 in
theorem dX12_checkBlock_232 : decode cX12_checkBlock 232 = .ok (.iload_n 1, 1) := by decide +kernel
set_option maxRecDepth 100000 in
theorem dX12_checkBlock_233 : decode cX12_checkBlock 233 = .ok (.iconst 2, 1) := by decide +kernel
set_option maxRecDepth 100000 in
theorem dX12_checkBlock_234 : decode cX12_checkBlock 234 = .ok (.invokevirtual 734, 3) := by decide +kernel
set_option maxRecDepth 100000 in
theorem dX12_checkBlock_237 : decode cX12_checkBlock 237 = .ok (.iaload, 1) := by decide +kernel
set_option maxRecDepth 100000 in
theorem dX12_checkBlock_238 : decode cX12_checkBlock 238 = .ok (.istore 4, 2) := by decide +kernel
set_option maxRecDepth 100000 in
theorem dX12_checkBlock_240 : decode cX12_checkBlock 240 = .ok (.iload 4, 2) := by decide +kernel
set_option maxRecDepth 100000 in
theorem dX12_checkBlock_242 : decode cX12_checkBlock 242 = .ok (.iconst (-1), 1) := by decide +kernel
set_option maxRecDepth 100000 in
theorem dX12_checkBlock_243 : decode cX12_checkBlock 243 = .ok (.if_icmp .eq 49, 3) := by decide +kernel
set_option maxRecDepth 100000 in
theorem dX12_checkBlock_246 : decode cX12_checkBlock 246 = .ok (.aload_n 0, 1) := by decide +kernel
set_option maxRecDepth 100000 in
theorem dX12_checkBlock_247 : decode cX12_checkBlock 247 = .ok (.aload_n 0, 1) := by decide +kernel
set_option maxRecDepth 100000 in
theorem dX12_checkBlock_248 : decode cX12_checkBlock 248 = .ok (.getfield 73, 3) := by decide +kernel
set_option maxRecDepth 100000 in
theorem dX12_checkBlock_251 : decode cX12_checkBlock 251 = .ok (.iload 4, 2) := by decide +kernel
set_option maxRecDepth 100000 in
theorem dX12_checkBlock_253 : decode cX12_checkBlock 253 = .ok (.iaload, 1) := by decide +kernel
set_option maxRecDepth 100000 in
theorem dX12_checkBlock_254 : decode cX12_checkBlock 254 = .ok (.invokevirtual 776, 3) := by decide +kernel
set_option maxRecDepth 100000 in
theorem dX12_checkBlock_257 : decode cX12_checkBlock 257 = .ok (.astore 5, 2) := by decide +kernel
set_option maxRecDepth 100000 in
theorem dX12_checkBlock_259 : decode cX12_checkBlock 259 = .ok (.aload_n 0, 1) := by decide +kernel
set_option maxRecDepth 100000 in
theorem dX12_checkBlock_260 : decode cX12_checkBlock 260 = .ok (.iconst 2, 1) := by decide +kernel
set_option maxRecDepth 100000 in
theorem dX12_checkBlock_261 : decode cX12_checkBlock 261 = .ok (.aload_n 0, 1) := by decide +kernel
set_option maxRecDepth 100000 in
theorem dX12_checkBlock_262 : decode cX12_checkBlock 262 = .ok (.getfield 70, 3) := by decide +kernel
set_option maxRecDepth 100000 in
theorem dX12_checkBlock_265 : decode cX12_checkBlock 265 = .ok (.iload 4, 2) := by decide +kernel
set_option maxRecDepth 100000 in
theorem dX12_checkBlock_267 : decode cX12_checkBlock 267 = .ok (.iaload, 1) := by decide +kernel
set_option maxRecDepth 100000 in
theorem dX12_checkBlock_268 : decode cX12_checkBlock 268 = .ok (.aload_n 0, 1) := by decide +kernel
set_option maxRecDepth 100000 in
theorem dX12_checkBlock_269 : decode cX12_checkBlock 269 = .ok (.invokevirtual 694, 3) := by decide +kernel
set_option maxRecDepth 100000 in
theorem dX12_checkBlock_272 : decode cX12_checkBlock 272 = .ok (.invokevirtual 698, 3) := by decide +kernel
set_option maxRecDepth 100000 in
theorem dX12_checkBlock_275 : decode cX12_checkBlock 275 = .ok (.aload 5, 2) := by decide +kernel
set_option maxRecDepth 100000 in
theorem dX12_checkBlock_277 : decode cX12_checkBlock 277 = .ok (.putfield 612, 3) := by decide +kernel
set_option maxRecDepth 100000 in
theorem dX12_checkBlock_280 : decode cX12_checkBlock 280 = .ok (.aload_n 0, 1) := by decide +kernel
set_option maxRecDepth 100000 in
theorem dX12_checkBlock_281 : decode cX12_checkBlock 281 = .ok (.getfield 79, 3) := by decide +kernel
set_option maxRecDepth 100000 in
theorem dX12_checkBlock_284 : decode cX12_checkBlock 284 = .ok (.iload 4, 2) := by decide +kernel
set_option maxRecDepth 100000 in
theorem dX12_checkBlock_286 : decode cX12_checkBlock 286 = .ok (.iaload, 1) := by decide +kernel
set_option maxRecDepth 100000 in
theorem dX12_checkBlock_287 : decode cX12_checkBlock 287 = .ok (.istore 4, 2) := by decide +kernel
set_option maxRecDepth 100000 in
theorem dX12_checkBlock_289 : decode cX12_checkBlock 289 = .ok (.goto (-49), 3) := by decide +kernel
set_option maxRecDepth 100000 in
theorem dX12_checkBlock_292 : decode cX12_checkBlock 292 = .ok (.aload_n 0, 1) := by decide +kernel
set_option maxRecDepth 100000 in
theorem dX12_checkBlock_293 : decode cX12_checkBlock 293 = .ok (.iconst 0, 1) := by decide +kernel
set_option maxRecDepth 100000 in
theorem dX12_checkBlock_294 : decode cX12_checkBlock 294 = .ok (.putfield 773, 3) := by decide +kernel
set_option maxRecDepth 100000 in
theorem dX12_checkBlock_297 : decode cX12_checkBlock 297 = .ok (.iconst 0, 1) := by decide +kernel
set_option maxRecDepth 100000 in
theorem dX12_checkBlock_298 : decode cX12_checkBlock 298 = .ok (.istore 4, 2) := by decide +kernel
set_option maxRecDepth 100000 in
theorem dX12_checkBlock_300 : decode cX12_checkBlock 300 = .ok (.iload 4, 2) := by decide +kernel
set_option maxRecDepth 100000 in
theorem dX12_checkBlock_302 : decode cX12_checkBlock 302 = .ok (.aload_n 0, 1) := by decide +kernel
set_option maxRecDepth 100000 in
theorem dX12_checkBlock_303 : decode cX12_checkBlock 303 = .ok (.getfield 150, 3) := by decide +kernel
set_option maxRecDepth 100000 in
theorem dX12_checkBlock_306 : decode cX12_checkBlock 306 = .ok (.invokevirtual 554, 3) := by decide +kernel
set_option maxRecDepth 100000 in
theorem dX12_checkBlock_309 : decode cX12_checkBlock 309 = .ok (.if_icmp .ge 32, 3) := by decide +kernel
set_option maxRecDepth 100000 in
theorem dX12_checkBlock_312 : decode cX12_checkBlock 312 = .ok (.aload_n 0, 1) := by decide +kernel
set_option maxRecDepth 100000 in
theorem dX12_checkBlock_313 : decode cX12_checkBlock 313 = .ok (.aload_n 0, 1) := by decide +kernel
set_option maxRecDepth 100000 in
theorem dX12_checkBlock_314 : decode cX12_checkBlock 314 = .ok (.getfield 150, 3) := by decide +kernel
set_option maxRecDepth 100000 in
theorem dX12_checkBlock_317 : decode cX12_checkBlock 317 = .ok (.iload 4, 2) := by decide +kernel
set_option maxRecDepth 100000 in
theorem dX12_checkBlock_319 : decode cX12_checkBlock 319 = .ok (.invokevirtual 556, 3) := by decide +kernel
set_option maxRecDepth 100000 in
theorem dX12_checkBlock_322 : decode cX12_checkBlock 322 = .ok (.checkcast 94, 3) := by decide +kernel
set_option maxRecDepth 100000 in
theorem dX12_checkBlock_325 : decode cX12_checkBlock 325 = .ok (.aload_n 0, 1) := by decide +kernel
set_option maxRecDepth 100000 in
theorem dX12_checkBlock_326 : decode cX12_checkBlock 326 = .ok (.getfield 153, 3) := by decide +kernel
set_option maxRecDepth 100000 in
theorem dX12_checkBlock_329 : decode cX12_checkBlock 329 = .ok (.iload 4, 2) := by decide +kernel
set_option maxRecDepth 100000 in
theorem dX12_checkBlock_331 : decode cX12_checkBlock 331 = .ok (.iaload, 1) := by decide +kernel
set_option maxRecDepth 100000 in
theorem dX12_checkBlock_332 : decode cX12_checkBlock 332 = .ok (.invokevirtual 780, 3) := by decide +kernel
set_option maxRecDepth 100000 in
theorem dX12_checkBlock_335 : decode cX12_checkBlock 335 = .ok (.iinc 4 1, 3) := by decide +kernel
set_option maxRecDepth 100000 in
theorem dX12_checkBlock_338 : decode cX12_checkBlock 338 = .ok (.goto (-38), 3) := by decide +kernel
set_option maxRecDepth 100000 in
theorem dX12_checkBlock_341 : decode cX12_checkBlock 341 = .ok (.aload_n 0, 1) := by decide +kernel
set_option maxRecDepth 100000 in
theorem dX12_checkBlock_342 : decode cX12_checkBlock 342 = .ok (.getfield 150, 3) := by decide +kernel
set_option maxRecDepth 100000 in
theorem dX12_checkBlock_345 : decode cX12_checkBlock 345 = .ok (.invokevirtual 784, 3) := by decide +kernel
set_option maxRecDepth 100000 in
theorem dX12_checkBlock_348 : decode cX12_checkBlock 348 = .ok (.aload_n 0, 1) := by decide +kernel
set_option maxRecDepth 100000 in
theorem dX12_checkBlock_349 : decode cX12_checkBlock 349 = .ok (.getfield 73, 3) := by decide +kernel
set_option maxRecDepth 100000 in
theorem dX12_checkBlock_352 : decode cX12_checkBlock 352 = .ok (.aload_n 0, 1) := by decide +kernel
set_option maxRecDepth 100000 in
theorem dX12_checkBlock_353 : decode cX12_checkBlock 353 = .ok (.iload_n 1, 1) := by decide +kernel
set_option maxRecDepth 100000 in
theorem dX12_checkBlock_354 : decode cX12_checkBlock 354 = .ok (.iconst 3, 1) := by decide +kernel
set_option maxRecDepth 100000 in
theorem dX12_checkBlock_355 : decode cX12_checkBlock 355 = .ok (.invokevirtual 734, 3) := by decide +kernel
set_option maxRecDepth 100000 in
theorem dX12_checkBlock_358 : decode cX12_checkBlock 358 = .ok (.iaload, 1) := by decide +kernel
set_option maxRecDepth 100000 in
theorem dX12_checkBlock_359 : decode cX12_checkBlock 359 = .ok (.istore 4, 2) := by decide +kernel
set_option maxRecDepth 100000 in
theorem dX12_checkBlock_361 : decode cX12_checkBlock 361 = .ok (.iload 4, 2) := by decide +kernel
set_option maxRecDepth 100000 in
theorem dX12_checkBlock_363 : decode cX12_checkBlock 363 = .ok (.iconst (-1), 1) := by decide +kernel
set_option maxRecDepth 100000 in
theorem dX12_checkBlock_364 : decode cX12_checkBlock 364 = .ok (.if_icmp .eq 77, 3) := by decide +kernel
set_option maxRecDepth 100000 in
theorem dX12_checkBlock_367 : decode cX12_checkBlock 367 = .ok (.aload_n 0, 1) := by decide +kernel
set_option maxRecDepth 100000 in
theorem dX12_checkBlock_368 : decode cX12_checkBlock 368 = .ok (.aload_n 0, 1) := by decide +kernel
set_option maxRecDepth 100000 in
theorem dX12_checkBlock_369 : decode cX12_checkBlock 369 = .ok (.iload 4, 2) := by decide +kernel
set_option maxRecDepth 100000 in
theorem dX12_checkBlock_371 : decode cX12_checkBlock 371 = .ok (.iconst 1, 1) := by decide +kernel
set_option maxRecDepth 100000 in
theorem dX12_checkBlock_372 : decode cX12_checkBlock 372 = .ok (.invokevirtual 734, 3) := by decide +kernel
set_option maxRecDepth 100000 in
theorem dX12_checkBlock_375 : decode cX12_checkBlock 375 = .ok (.invokevirtual 776, 3) := by decide +kernel
set_option maxRecDepth 100000 in
theorem dX12_checkBlock_378 : decode cX12_checkBlock 378 = .ok (.astore 5, 2) := by decide +kernel
set_option maxRecDepth 100000 in
theorem dX12_checkBlock_380 : decode cX12_checkBlock 380 = .ok (.aload_n 0, 1) := by decide +kernel
set_option maxRecDepth 100000 in
theorem dX12_checkBlock_381 : decode cX12_checkBlock 381 = .ok (.getfield 73, 3) := by decide +kernel
set_option maxRecDepth 100000 in
theorem dX12_checkBlock_384 : decode cX12_checkBlock 384 = .ok (.aload_n 0, 1) := by decide +kernel
set_option maxRecDepth 100000 in
theorem dX12_checkBlock_385 : decode cX12_checkBlock 385 = .ok (.getfield 73, 3) := by decide +kernel
set_option maxRecDepth 100000 in
theorem dX12_checkBlock_388 : decode cX12_checkBlock 388 = .ok (.iload 4, 2) := by decide +kernel
set_option maxRecDepth 100000 in
theorem dX12_checkBlock_390 : decode cX12_checkBlock 390 = .ok (.iaload, 1) := by decide +kernel
set_option maxRecDepth 100000 in
theorem dX12_checkBlock_391 : decode cX12_checkBlock 391 = .ok (.iaload, 1) := by decide +kernel
set_option maxRecDepth 100000 in
theorem dX12_checkBlock_392 : decode cX12_checkBlock 392 = .ok (.istore 6, 2) := by decide +kernel
set_option maxRecDepth 100000 in
theorem dX12_checkBlock_394 : decode cX12_checkBlock 394 = .ok (.iload 6, 2) := by decide +kernel
set_option maxRecDepth 100000 in
theorem dX12_checkBlock_396 : decode cX12_checkBlock 396 = .ok (.iconst (-1), 1) := by decide +kernel
set_option maxRecDepth 100000 in
theorem dX12_checkBlock_397 : decode cX12_checkBlock 397 = .ok (.if_icmp .eq 32, 3) := by decide +kernel
set_option maxRecDepth 100000 in
theorem dX12_checkBlock_400 : decode cX12_checkBlock 400 = .ok (.aload_n 0, 1) := by decide +kernel
set_option maxRecDepth 100000 in
theorem dX12_checkBlock_401 : decode cX12_checkBlock 401 = .ok (.aload_n 0, 1) := by decide +kernel
set_option maxRecDepth 100000 in
theorem dX12_checkBlock_402 : decode cX12_checkBlock 402 = .ok (.getfield 70, 3) := by decide +kernel
set_option maxRecDepth 100000 in
theorem dX12_checkBlock_405 : decode cX12_checkBlock 405 = .ok (.iload 6, 2) := by decide +kernel
set_option maxRecDepth 100000 in
theorem dX12_checkBlock_407 : decode cX12_checkBlock 407 = .ok (.iaload, 1) := by decide +kernel
set_option maxRecDepth 100000 in
theorem dX12_checkBlock_408 : decode cX12_checkBlock 408 = .ok (.aload 5, 2) := by decide +kernel
set_option maxRecDepth 100000 in
theorem dX12_checkBlock_410 : decode cX12_checkBlock 410 = .ok (.invokevirtual 723, 3) := by decide +kernel
set_option maxRecDepth 100000 in
theorem dX12_checkBlock_413 : decode cX12_checkBlock 413 = .ok (.iconst 1, 1) := by decide +kernel
set_option maxRecDepth 100000 in
theorem dX12_checkBlock_414 : decode cX12_checkBlock 414 = .ok (.putfield 787, 3) := by decide +kernel
set_option maxRecDepth 100000 in
theorem dX12_checkBlock_417 : decode cX12_checkBlock 417 = .ok (.aload_n 0, 1) := by decide +kernel
set_option maxRecDepth 100000 in
theorem dX12_checkBlock_418 : decode cX12_checkBlock 418 = .ok (.getfield 79, 3) := by decide +kernel
set_option maxRecDepth 100000 in
theorem dX12_checkBlock_421 : decode cX12_checkBlock 421 = .ok (.iload 6, 2) := by decide +kernel
set_option maxRecDepth 100000 in
theorem dX12_checkBlock_423 : decode cX12_checkBlock 423 = .ok (.iaload, 1) := by decide +kernel
set_option maxRecDepth 100000 in
theorem dX12_checkBlock_424 : decode cX12_checkBlock 424 = .ok (.istore 6, 2) := by decide +kernel
set_option maxRecDepth 100000 in
theorem dX12_checkBlock_426 : decode cX12_checkBlock 426 = .ok (.goto (-32), 3) := by decide +kernel
set_option maxRecDepth 100000 in
theorem dX12_checkBlock_429 : decode cX12_checkBlock 429 = .ok (.aload_n 0, 1) := by decide +kernel
set_option maxRecDepth 100000 in
theorem dX12_checkBlock_430 : decode cX12_checkBlock 430 = .ok (.getfield 79, 3) := by decide +kernel
set_option maxRecDepth 100000 in
theorem dX12_checkBlock_433 : decode cX12_checkBlock 433 = .ok (.iload 4, 2) := by decide +kernel
set_option maxRecDepth 100000 in
theorem dX12_checkBlock_435 : decode cX12_checkBlock 435 = .ok (.iaload, 1) := by decide +kernel
set_option maxRecDepth 100000 in
theorem dX12_checkBlock_436 : decode cX12_checkBlock 436 = .ok (.istore 4, 2) := by decide +kernel
set_option maxRecDepth 100000 in
theorem dX12_checkBlock_438 : decode cX12_checkBlock 438 = .ok (.goto (-77), 3) := by decide +kernel
set_option maxRecDepth 100000 in
theorem dX12_checkBlock_441 : decode cX12_checkBlock 441 = .ok (.iload_n 2, 1) := by decide +kernel
set_option maxRecDepth 100000 in
theorem dX12_checkBlock_442 : decode cX12_checkBlock 442 = .ok (.iconst (-1), 1) := by decide +kernel
set_option maxRecDepth 100000 in
theorem dX12_checkBlock_443 : decode cX12_checkBlock 443 = .ok (.if_icmp .eq 8, 3) := by decide +kernel
set_option maxRecDepth 100000 in
theorem dX12_checkBlock_446 : decode cX12_checkBlock 446 = .ok (.aload_n 0, 1) := by decide +kernel
set_option maxRecDepth 100000 in
theorem dX12_checkBlock_447 : decode cX12_checkBlock 447 = .ok (.iload_n 2, 1) := by decide +kernel
set_option maxRecDepth 100000 in
theorem dX12_checkBlock_448 : decode cX12_checkBlock 448 = .ok (.invokevirtual 790, 3) := by decide +kernel
set_option maxRecDepth 100000 in
theorem dX12_checkBlock_451 : decode cX12_checkBlock 451 = .ok (.aload_n 0, 1) := by decide +kernel
set_option maxRecDepth 100000 in
theorem dX12_checkBlock_452 : decode cX12_checkBlock 452 = .ok (.getfield 73, 3) := by decide +kernel
set_option maxRecDepth 100000 in
theorem dX12_checkBlock_455 : decode cX12_checkBlock 455 = .ok (.aload_n 0, 1) := by decide +kernel
set_option maxRecDepth 100000 in
theorem dX12_checkBlock_456 : decode cX12_checkBlock 456 = .ok (.iload_n 1, 1) := by decide +kernel
set_option maxRecDepth 100000 in
theorem dX12_checkBlock_457 : decode cX12_checkBlock 457 = .ok (.iconst 4, 1) := by decide +kernel
set_option maxRecDepth 100000 in
theorem dX12_checkBlock_458 : decode cX12_checkBlock 458 = .ok (.invokevirtual 734, 3) := by decide +kernel
set_option maxRecDepth 100000 in
theorem dX12_checkBlock_461 : decode cX12_checkBlock 461 = .ok (.iaload, 1) := by decide +kernel
set_option maxRecDepth 100000 in
theorem dX12_checkBlock_462 : decode cX12_checkBlock 462 = .ok (.istore 4, 2) := by decide +kernel
set_option maxRecDepth 100000 in
theorem dX12_checkBlock_464 : decode cX12_checkBlock 464 = .ok (.iload 4, 2) := by decide +kernel
set_option maxRecDepth 100000 in
theorem dX12_checkBlock_466 : decode cX12_checkBlock 466 = .ok (.iconst (-1), 1) := by decide +kernel
set_option maxRecDepth 100000 in
theorem dX12_checkBlock_467 : decode cX12_checkBlock 467 = .ok (.if_icmp .eq 21, 3) := by decide +kernel
set_option maxRecDepth 100000 in
theorem dX12_checkBlock_470 : decode cX12_checkBlock 470 = .ok (.aload_n 0, 1) := by decide +kernel
set_option maxRecDepth 100000 in
theorem dX12_checkBlock_471 : decode cX12_checkBlock 471 = .ok (.iload 4, 2) := by decide +kernel
set_option maxRecDepth 100000 in
theorem dX12_checkBlock_473 : decode cX12_checkBlock 473 = .ok (.invokevirtual 793, 3) := by decide +kernel
set_option maxRecDepth 100000 in
theorem dX12_checkBlock_476 : decode cX12_checkBlock 476 = .ok (.aload_n 0, 1) := by decide +kernel
set_option maxRecDepth 100000 in
theorem dX12_checkBlock_477 : decode cX12_checkBlock 477 = .ok (.getfield 79, 3) := by decide +kernel
set_option maxRecDepth 100000 in
theorem dX12_checkBlock_480 : decode cX12_checkBlock 480 = .ok (.iload 4, 2) := by decide +kernel
set_option maxRecDepth 100000 in
theorem dX12_checkBlock_482 : decode cX12_checkBlock 482 = .ok (.iaload, 1) := by decide +kernel
set_option maxRecDepth 100000 in
theorem dX12_checkBlock_483 : decode cX12_checkBlock 483 = .ok (.istore 4, 2) := by decide +kernel
set_option maxRecDepth 100000 in
theorem dX12_checkBlock_485 : decode cX12_checkBlock 485 = .ok (.goto (-21), 3) := by decide +kernel
set_option maxRecDepth 100000 in
theorem dX12_checkBlock_488 : decode cX12_checkBlock 488 = .ok (.aload_n 0, 1) := by decide +kernel
set_option maxRecDepth 100000 in
theorem dX12_checkBlock_489 : decode cX12_checkBlock 489 = .ok (.invokevirtual 694, 3) := by decide +kernel
set_option maxRecDepth 100000 in
theorem dX12_checkBlock_492 : decode cX12_checkBlock 492 = .ok (.astore 4, 2) := by decide +kernel
set_option maxRecDepth 100000 in
theorem dX12_checkBlock_494 : decode cX12_checkBlock 494 = .ok (.iconst 0, 1) := by decide +kernel
set_option maxRecDepth 100000 in
theorem dX12_checkBlock_495 : decode cX12_checkBlock 495 = .ok (.istore 5, 2) := by decide +kernel
set_option maxRecDepth 100000 in
theorem dX12_checkBlock_497 : decode cX12_checkBlock 497 = .ok (.iload 5, 2) := by decide +kernel
set_option maxRecDepth 100000 in
theorem dX12_checkBlock_499 : decode cX12_checkBlock 499 = .ok (.aload 4, 2) := by decide +kernel
set_option maxRecDepth 100000 in
theorem dX12_checkBlock_501 : decode cX12_checkBlock 501 = .ok (.invokevirtual 554, 3) := by decide +kernel
set_option maxRecDepth 100000 in
theorem dX12_checkBlock_504 : decode cX12_checkBlock 504 = .ok (.if_icmp .ge 57, 3) := by decide +kernel
set_option maxRecDepth 100000 in
theorem dX12_checkBlock_507 : decode cX12_checkBlock 507 = .ok (.aload 4, 2) := by decide +kernel
set_option maxRecDepth 100000 in
theorem dX12_checkBlock_509 : decode cX12_checkBlock 509 = .ok (.iload 5, 2) := by decide +kernel
set_option maxRecDepth 100000 in
theorem dX12_checkBlock_511 : decode cX12_checkBlock 511 = .ok (.invokevirtual 556, 3) := by decide +kernel
set_option maxRecDepth 100000 in
theorem dX12_checkBlock_514 : decode cX12_checkBlock 514 = .ok (.checkcast 100, 3) := by decide +kernel
set_option maxRecDepth 100000 in
theorem dX12_checkBlock_517 : decode cX12_checkBlock 517 = .ok (.astore 6, 2) := by decide +kernel
set_option maxRecDepth 100000 in
theorem dX12_checkBlock_519 : decode cX12_checkBlock 519 = .ok (.aload 6, 2) := by decide +kernel
set_option maxRecDepth 100000 in
theorem dX12_checkBlock_521 : decode cX12_checkBlock 521 = .ok (.getfield 577, 3) := by decide +kernel
set_option maxRecDepth 100000 in
theorem dX12_checkBlock_524 : decode cX12_checkBlock 524 = .ok (.iconst 5, 1) := by decide +kernel
set_option maxRecDepth 100000 in
theorem dX12_checkBlock_525 : decode cX12_checkBlock 525 = .ok (.if_icmp .ne 30, 3) := by decide +kernel
set_option maxRecDepth 100000 in
theorem dX12_checkBlock_528 : decode cX12_checkBlock 528 = .ok (.aload 6, 2) := by decide +kernel
set_option maxRecDepth 100000 in
theorem dX12_checkBlock_530 : decode cX12_checkBlock 530 = .ok (.getfield 796, 3) := by decide +kernel
set_option maxRecDepth 100000 in
theorem dX12_checkBlock_533 : decode cX12_checkBlock 533 = .ok (.ifCond .eq 22, 3) := by decide +kernel
set_option maxRecDepth 100000 in
theorem dX12_checkBlock_536 : decode cX12_checkBlock 536 = .ok (.aload 6, 2) := by decide +kernel
set_option maxRecDepth 100000 in
theorem dX12_checkBlock_538 : decode cX12_checkBlock 538 = .ok (.getfield 799, 3) := by decide +kernel
set_option maxRecDepth 100000 in
theorem dX12_checkBlock_541 : decode cX12_checkBlock 541 = .ok (.ifCond .ne 14, 3) := by decide +kernel
set_option maxRecDepth 100000 in
theorem dX12_checkBlock_544 : decode cX12_checkBlock 544 = .ok (.aload_n 0, 1) := by decide +kernel
set_option maxRecDepth 100000 in
theorem dX12_checkBlock_545 : decode cX12_checkBlock 545 = .ok (.bipush 10, 2) := by decide +kernel
set_option maxRecDepth 100000 in
theorem dX12_checkBlock_547 : decode cX12_checkBlock 547 = .ok (.aload 6, 2) := by decide +kernel
set_option maxRecDepth 100000 in
theorem dX12_checkBlock_549 : decode cX12_checkBlock 549 = .ok (.getfield 587, 3) := by decide +kernel
set_option maxRecDepth 100000 in
theorem dX12_checkBlock_552 : decode cX12_checkBlock 552 = .ok (.invokevirtual 570, 3) := by decide +kernel
set_option maxRecDepth 100000 in
theorem dX12_checkBlock_555 : decode cX12_checkBlock 555 = .ok (.iinc 5 1, 3) := by decide +kernel
set_option maxRecDepth 100000 in
theorem dX12_checkBlock_558 : decode cX12_checkBlock 558 = .ok (.goto (-61), 3) := by decide +kernel
set_option maxRecDepth 100000 in
theorem dX12_checkBlock_561 : decode cX12_checkBlock 561 = .ok (.aload_n 3, 1) := by decide +kernel
set_option maxRecDepth 100000 in
theorem dX12_checkBlock_562 : decode cX12_checkBlock 562 = .ok (.aload_n 0, 1) := by decide +kernel
set_option maxRecDepth 100000 in
theorem dX12_checkBlock_563 : decode cX12_checkBlock 563 = .ok (.iload_n 1, 1) := by decide +kernel
set_option maxRecDepth 100000 in
theorem dX12_checkBlock_564 : decode cX12_checkBlock 564 = .ok (.iconst 5, 1) := by decide +kernel
set_option maxRecDepth 100000 in
theorem dX12_checkBlock_565 : decode cX12_checkBlock 565 = .ok (.invokevirtual 734, 3) := by decide +kernel
set_option maxRecDepth 100000 in
theorem dX12_checkBlock_568 : decode cX12_checkBlock 568 = .ok (.putfield 802, 3) := by decide +kernel
set_option maxRecDepth 100000 in
theorem dX12_checkBlock_571 : decode cX12_checkBlock 571 = .ok (.aload_n 0, 1) := by decide +kernel
set_option maxRecDepth 100000 in
theorem dX12_checkBlock_572 : decode cX12_checkBlock 572 = .ok (.getfield 805, 3) := by decide +kernel
set_option maxRecDepth 100000 in
theorem dX12_checkBlock_575 : decode cX12_checkBlock 575 = .ok (.istore 5, 2) := by decide +kernel
set_option maxRecDepth 100000 in
theorem dX12_checkBlock_577 : decode cX12_checkBlock 577 = .ok (.aload_n 0, 1) := by decide +kernel
set_option maxRecDepth 100000 in
theorem dX12_checkBlock_578 : decode cX12_checkBlock 578 = .ok (.iconst 0, 1) := by decide +kernel
set_option maxRecDepth 100000 in
theorem dX12_checkBlock_579 : decode cX12_checkBlock 579 = .ok (.putfield 805, 3) := by decide +kernel
set_option maxRecDepth 100000 in
theorem dX12_checkBlock_582 : decode cX12_checkBlock 582 = .ok (.aload_n 0, 1) := by decide +kernel
set_option maxRecDepth 100000 in
theorem dX12_checkBlock_583 : decode cX12_checkBlock 583 = .ok (.aload_n 3, 1) := by decide +kernel
set_option maxRecDepth 100000 in
theorem dX12_checkBlock_584 : decode cX12_checkBlock 584 = .ok (.getfield 802, 3) := by decide +kernel
set_option maxRecDepth 100000 in
theorem dX12_checkBlock_587 : decode cX12_checkBlock 587 = .ok (.invokevirtual 808, 3) := by decide +kernel
set_option maxRecDepth 100000 in
theorem dX12_checkBlock_590 : decode cX12_checkBlock 590 = .ok (.aload_n 0, 1) := by decide +kernel
set_option maxRecDepth 100000 in
theorem dX12_checkBlock_591 : decode cX12_checkBlock 591 = .ok (.iload 5, 2) := by decide +kernel
set_option maxRecDepth 100000 in
theorem dX12_checkBlock_593 : decode cX12_checkBlock 593 = .ok (.putfield 805, 3) := by decide +kernel
set_option maxRecDepth 100000 in
theorem dX12_checkBlock_596 : decode cX12_checkBlock 596 = .ok (.iconst 0, 1) := by decide +kernel
set_option maxRecDepth 100000 in
theorem dX12_checkBlock_597 : decode cX12_checkBlock 597 = .ok (.istore 6, 2) := by decide +kernel
set_option maxRecDepth 100000 in
theorem dX12_checkBlock_599 : decode cX12_checkBlock 599 = .ok (.iload 6, 2) := by decide +kernel
set_option maxRecDepth 100000 in
theorem dX12_checkBlock_601 : decode cX12_checkBlock 601 = .ok (.aload_n 3, 1) := by decide +kernel
set_option maxRecDepth 100000 in
theorem dX12_checkBlock_602 : decode cX12_checkBlock 602 = .ok (.getfield 811, 3) := by decide +kernel
set_option maxRecDepth 100000 in
theorem dX12_checkBlock_605 : decode cX12_checkBlock 605 = .ok (.invokevirtual 554, 3) := by decide +kernel
set_option maxRecDepth 100000 in
theorem dX12_checkBlock_608 : decode cX12_checkBlock 608 = .ok (.if_icmp .ge 26, 3) := by decide +kernel
set_option maxRecDepth 100000 in
theorem dX12_checkBlock_611 : decode cX12_checkBlock 611 = .ok (.aload_n 0, 1) := by decide +kernel
set_option maxRecDepth 100000 in
theorem dX12_checkBlock_612 : decode cX12_checkBlock 612 = .ok (.aload_n 3, 1) := by decide +kernel
set_option maxRecDepth 100000 in
theorem dX12_checkBlock_613 : decode cX12_checkBlock 613 = .ok (.aload_n 3, 1) := by decide +kernel
set_option maxRecDepth 100000 in
theorem dX12_checkBlock_614 : decode cX12_checkBlock 614 = .ok (.getfield 811, 3) := by decide +kernel
set_option maxRecDepth 100000 in
theorem dX12_checkBlock_617 : decode cX12_checkBlock 617 = .ok (.iload 6, 2) := by decide +kernel
set_option maxRecDepth 100000 in
theorem dX12_checkBlock_619 : decode cX12_checkBlock 619 = .ok (.invokevirtual 556, 3) := by decide +kernel
set_option maxRecDepth 100000 in
theorem dX12_checkBlock_622 : decode cX12_checkBlock 622 = .ok (.checkcast 814, 3) := by decide +kernel
set_option maxRecDepth 100000 in
theorem dX12_checkBlock_625 : decode cX12_checkBlock 625 = .ok (.invokevirtual 816, 3) := by decide +kernel
set_option maxRecDepth 100000 in
theorem dX12_checkBlock_628 : decode cX12_checkBlock 628 = .ok (.iinc 6 1, 3) := by decide +kernel
set_option maxRecDepth 100000 in
theorem dX12_checkBlock_631 : decode cX12_checkBlock 631 = .ok (.goto (-32), 3) := by decide +kernel
set_option maxRecDepth 100000 in
theorem dX12_checkBlock_634 : decode cX12_checkBlock 634 = .ok (.return_, 1) := by decide +kernel
def lX12_checkBlock_18 (G : xG) (fr lo : Nat) (x0 : Nat) (x1 : Int32) (x2 : Int32) (x3 : Nat) (x4 : Int32) (h : xH) (Q : Outcome → xH → Prop) : Prop := xP G YX12_checkBlock fr lo 18 [(0, rv x0), (1, .int x1), (2, .int x2), (3, rv x3), (4, .int x4)] [] h Q
def lX12_checkBlock_123 (G : xG) (fr lo : Nat) (x0 : Nat) (x1 : Int32) (x2 : Int32) (x3 : Nat) (x4 : Int32) (h : xH) (Q : Outcome → xH → Prop) : Prop := xP G YX12_checkBlock fr lo 123 [(0, rv x0), (1, .int x1), (2, .int x2), (3, rv x3), (4, .int x4)] [] h Q
def lX12_checkBlock_240 (G : xG) (fr lo : Nat) (x0 : Nat) (x1 : Int32) (x2 : Int32) (x3 : Nat) (x4 : Int32) (h : xH) (Q : Outcome → xH → Prop) : Prop := xP G YX12_checkBlock fr lo 240 [(0, rv x0), (1, .int x1), (2, .int x2), (3, rv x3), (4, .int x4)] [] h Q
def lX12_checkBlock_300 (G : xG) (fr lo : Nat) (x0 : Nat) (x1 : Int32) (x2 : Int32) (x3 : Nat) (x4 : Int32) (h : xH) (Q : Outcome → xH → Prop) : Prop := xP G YX12_checkBlock fr lo 300 [(0, rv x0), (1, .int x1), (2, .int x2), (3, rv x3), (4, .int x4)] [] h Q
def lX12_checkBlock_361 (G : xG) (fr lo : Nat) (x0 : Nat) (x1 : Int32) (x2 : Int32) (x3 : Nat) (x4 : Int32) (h : xH) (Q : Outcome → xH → Prop) : Prop := xP G YX12_checkBlock fr lo 361 [(0, rv x0), (1, .int x1), (2, .int x2), (3, rv x3), (4, .int x4)] [] h Q
def lX12_checkBlock_394 (G : xG) (fr lo : Nat) (x0 : Nat) (x1 : Int32) (x2 : Int32) (x3 : Nat) (x4 : Int32) (x5 : Nat) (x6 : Int32) (h : xH) (Q : Outcome → xH → Prop) : Prop := xP G YX12_checkBlock fr lo 394 [(0, rv x0), (1, .int x1), (2, .int x2), (3, rv x3), (4, .int x4), (5, rv x5), (6, .int x6)] [] h Q
def lX12_checkBlock_464 (G : xG) (fr lo : Nat) (x0 : Nat) (x1 : Int32) (x3 : Nat) (x4 : Int32) (h : xH) (Q : Outcome → xH → Prop) : Prop := xP G YX12_checkBlock fr lo 464 [(0, rv x0), (1, .int x1), (3, rv x3), (4, .int x4)] [] h Q
def lX12_checkBlock_497 (G : xG) (fr lo : Nat) (x0 : Nat) (x1 : Int32) (x3 : Nat) (x4 : Nat) (x5 : Int32) (h : xH) (Q : Outcome → xH → Prop) : Prop := xP G YX12_checkBlock fr lo 497 [(0, rv x0), (1, .int x1), (3, rv x3), (4, rv x4), (5, .int x5)] [] h Q
def lX12_checkBlock_599 (G : xG) (fr lo : Nat) (x0 : Nat) (x3 : Nat) (x6 : Int32) (h : xH) (Q : Outcome → xH → Prop) : Prop := xP G YX12_checkBlock fr lo 599 [(0, rv x0), (3, rv x3), (6, .int x6)] [] h Q
set_option maxRecDepth 100000 in
def bX12_checkBlock_599 (G : xG) (fr lo : Nat) (x0 : Nat) (x3 : Nat) (x6 : Int32) (h : xH) (Q : Outcome → xH → Prop) : Prop := tg h x3 = 25 ∧ tg h (fR h x3 6145) = 29 ∧ 1 ≤ fr ∧ 13 ≤ lo ∧ xRi G YJ2_size (fr - 1) (lo - 13) [rv (fR h x3 6145)] h (fun x6 h5 => xext h h5 → ((x6 ≤ x6 → Q (.returned none) h5) ∧ (¬ x6 ≤ x6 → tg h5 (fR h5 x3 6145) = 29 ∧ 1 ≤ fr ∧ 15 ≤ lo ∧ xRr G YJ2_get (fr - 1) (lo - 15) [rv (fR h5 x3 6145), .int x6] h5 (fun x14 h13 => xext h5 h13 → tg h13 x14 = 28 ∧ tg h13 x0 = 13 ∧ 1 ≤ fr ∧ 18 ≤ lo ∧ xRv G YX12_checkJump (fr - 1) (lo - 18) [rv x0, rv x3, rv x14] h13 (fun h20 => xext h13 h20 → lX12_checkBlock_599 G fr lo x0 x3 (x6 + 1) h20 Q) (fun r h2 => Q (.threw r) h2)) (fun r h2 => Q (.threw r) h2)))) (fun r h2 => Q (.threw r) h2)
set_option maxRecDepth 100000 in
theorem uX12_checkBlock_599 {G : xG} {fr lo : Nat} {x0 : Nat} {x3 : Nat} {x6 : Int32} {h : xH} {Q : Outcome → xH → Prop} (hq : bX12_checkBlock_599 G fr lo x0 x3 x6 h Q) : xP G YX12_checkBlock fr lo 599 [(0, rv x0), (3, rv x3), (6, .int x6)] [] h Q := by
  unfold bX12_checkBlock_599 at hq
  refine x_iload 2 dX12_checkBlock_599 rfl ?_
  refine x_aload_n 1 dX12_checkBlock_601 rfl ?_
  obtain ⟨g1, hq⟩ := hq
  refine x_get (v := rv (fR h x3 6145)) fdX12_811 dX12_checkBlock_602 g1 rfl ?_
  obtain ⟨g2, hq⟩ := hq
  obtain ⟨g3, g4, hq⟩ := hq
  refine x_callV (Yc := YJ2_size) (as := []) (st := [.int x6]) q4067 mvJ2_size g2 rfl dX12_checkBlock_605 (xle (xal1 (rv_cat _) xal0) (by decide)) (xfr g3) (xlo (xsw1 rfl xsw0) (by decide) g4) (xKi hq (fun x6 h5 hq e7 => ?_) (fun _ _ q _ => q))
  replace hq := hq e7
  refine x_icmp_ge (tgt := 634) dX12_checkBlock_608 (by decide) (fun c8 => ?_) (fun c8 => ?_)
  · replace hq := hq.1 c8
    exact x_vret rfl dX12_checkBlock_634 hq
  · replace hq := hq.2 c8
    refine x_aload_n 0 dX12_checkBlock_611 rfl ?_
    refine x_aload_n 1 dX12_checkBlock_612 rfl ?_
    refine x_aload_n 1 dX12_checkBlock_613 rfl ?_
    have t9 : tg h5 x3 = 25 := e7.tg g1 (by decide)
    refine x_get (v := rv (fR h5 x3 6145)) fdX12_811 dX12_checkBlock_614 t9 rfl ?_
    refine x_iload 2 dX12_checkBlock_617 rfl ?_
    obtain ⟨g10, hq⟩ := hq
    obtain ⟨g11, g12, hq⟩ := hq
    refine x_callV (Yc := YJ2_get) (as := [.int x6]) (st := [rv x3, rv x0]) q4109 mvJ2_get g10 rfl dX12_checkBlock_619 (xle (xal1 (rv_cat _) (xal1 rfl xal0)) (by decide)) (xfr g11) (xlo (xsw1 (rv_cat _) (xsw1 (rv_cat _) xsw0)) (by decide) g12) (xKr hq (fun x14 h13 hq e15 => ?_) (fun _ _ q _ => q))
    replace hq := hq e15
    obtain ⟨g16, hq⟩ := hq
    refine x_cast (ci := 27) (by decide) rfl q4425 g16 dX12_checkBlock_622 ?_
    obtain ⟨g17, hq⟩ := hq
    obtain ⟨g18, g19, hq⟩ := hq
    refine x_callV (Yc := YX12_checkJump) (as := [rv x3, rv x14]) (st := []) q4472 mvX12_checkJump g17 rfl dX12_checkBlock_625 (xle (xal1 (rv_cat _) (xal1 (rv_cat _) (xal1 (rv_cat _) xal0))) (by decide)) (xfr g18) (xlo xsw0 (by decide) g19) (xKv hq (fun h20 hq e22 => ?_) (fun _ _ q _ => q))
    replace hq := hq e22
    refine x_iinc (lv' := [(6, .int (x6 + 1)), (0, rv x0), (3, rv x3)]) 2 dX12_checkBlock_628 rfl (by decide) rfl ?_
    refine x_goto (tgt := 599) dX12_checkBlock_631 (by decide) ?_
    refine xP.pick (lv' := [(0, rv x0), (3, rv x3), (6, .int (x6 + 1))]) [1, 2, 0] rfl ?_
    exact hq
set_option maxRecDepth 100000 in
def bX12_checkBlock_555 (G : xG) (fr lo : Nat) (x0 : Nat) (x1 : Int32) (x3 : Nat) (x4 : Nat) (x5 : Int32) (h : xH) (Q : Outcome → xH → Prop) : Prop := lX12_checkBlock_497 G fr lo x0 x1 x3 x4 (x5 + 1) h Q
set_option maxRecDepth 100000 in
theorem uX12_checkBlock_555 {G : xG} {fr lo : Nat} {x0 : Nat} {x1 : Int32} {x3 : Nat} {x4 : Nat} {x5 : Int32} {h : xH} {Q : Outcome → xH → Prop} (hq : bX12_checkBlock_555 G fr lo x0 x1 x3 x4 x5 h Q) : xP G YX12_checkBlock fr lo 555 [(0, rv x0), (1, .int x1), (3, rv x3), (4, rv x4), (5, .int x5)] [] h Q := by
  unfold bX12_checkBlock_555 at hq
  refine x_iinc (lv' := [(5, .int (x5 + 1)), (0, rv x0), (1, .int x1), (3, rv x3), (4, rv x4)]) 4 dX12_checkBlock_555 rfl (by decide) (by first | rfl | (simp [rv_cat, Value.category]; done) | (simp [rv_cat, Value.category]; decide)) ?_
  refine x_goto (tgt := 497) dX12_checkBlock_558 (by decide) ?_
  refine xP.pick (lv' := [(0, rv x0), (1, .int x1), (3, rv x3), (4, rv x4), (5, .int (x5 + 1))]) [1, 2, 3, 4, 0] rfl ?_
  exact hq
set_option maxRecDepth 100000 in
def bX12_checkBlock_497 (G : xG) (fr lo : Nat) (x0 : Nat) (x1 : Int32) (x3 : Nat) (x4 : Nat) (x5 : Int32) (h : xH) (Q : Outcome → xH → Prop) : Prop := tg h x4 = 29 ∧ 1 ≤ fr ∧ 13 ≤ lo ∧ xRi G YJ2_size (fr - 1) (lo - 13) [rv x4] h (fun x5 h4 => xext h h4 → ((x5 ≤ x5 → tg h4 x0 = 13 ∧ 1 ≤ fr ∧ 17 ≤ lo ∧ xRi G YX12_child (fr - 1) (lo - 17) [rv x0, .int x1, .int 5] h4 (fun x12 h11 => xext h4 h11 → tg h11 x3 = 25 ∧ (∀ h15 : xH, h15 = sI h11 x3 6147 x12 → (∀ h19 : xH, h19 = sI h15 x0 3124 0 → 1 ≤ fr ∧ 14 ≤ lo ∧ xRv G YX12_checkStatement (fr - 1) (lo - 14) [rv x0, .int (fI h19 x3 6147)] h19 (fun h26 => xext h19 h26 → (∀ h30 : xH, h30 = sI h26 x0 3124 (fI h15 x0 3124) → lX12_checkBlock_599 G fr lo x0 x3 0 h30 Q)) (fun r h2 => Q (.threw r) h2)))) (fun r h2 => Q (.threw r) h2)) ∧ (¬ x5 ≤ x5 → 1 ≤ fr ∧ 13 ≤ lo ∧ xRr G YJ2_get (fr - 1) (lo - 13) [rv x4, .int x5] h4 (fun x36 h35 => xext h4 h35 → tg h35 x36 = 24 ∧ ((¬ (fI h35 x36 5888) = 5 → bX12_checkBlock_555 G fr lo x0 x1 x3 x4 x5 h35 Q) ∧ ((fI h35 x36 5888) = 5 → (((fI h35 x36 5906) = 0 → bX12_checkBlock_555 G fr lo x0 x1 x3 x4 x5 h35 Q) ∧ (¬ (fI h35 x36 5906) = 0 → ((¬ (fI h35 x36 5907) = 0 → bX12_checkBlock_555 G fr lo x0 x1 x3 x4 x5 h35 Q) ∧ ((fI h35 x36 5907) = 0 → tg h35 x0 = 13 ∧ 1 ≤ fr ∧ 14 ≤ lo ∧ xRv G YX12_refuse (fr - 1) (lo - 14) [rv x0, .int 10, .int (fI h35 x36 5913)] h35 (fun h45 => xext h35 h45 → bX12_checkBlock_555 G fr lo x0 x1 x3 x4 x5 h45 Q) (fun r h2 => Q (.threw r) h2)))))))) (fun r h2 => Q (.threw r) h2)))) (fun r h2 => Q (.threw r) h2)
set_option maxRecDepth 100000 in
theorem uX12_checkBlock_497 {G : xG} {fr lo : Nat} {x0 : Nat} {x1 : Int32} {x3 : Nat} {x4 : Nat} {x5 : Int32} {h : xH} {Q : Outcome → xH → Prop} (hq : bX12_checkBlock_497 G fr lo x0 x1 x3 x4 x5 h Q) : xP G YX12_checkBlock fr lo 497 [(0, rv x0), (1, .int x1), (3, rv x3), (4, rv x4), (5, .int x5)] [] h Q := by
  unfold bX12_checkBlock_497 at hq
  refine x_iload 4 dX12_checkBlock_497 rfl ?_
  refine x_aload 3 dX12_checkBlock_499 rfl ?_
  obtain ⟨g1, hq⟩ := hq
  obtain ⟨g2, g3, hq⟩ := hq
  refine x_callV (Yc := YJ2_size) (as := []) (st := [.int x5]) q4067 mvJ2_size g1 rfl dX12_checkBlock_501 (xle (xal1 (rv_cat _) xal0) (by decide)) (xfr g2) (xlo (xsw1 rfl xsw0) (by decide) g3) (xKi hq (fun x5 h4 hq e6 => ?_) (fun _ _ q _ => q))
  replace hq := hq e6
  refine x_icmp_ge (tgt := 561) dX12_checkBlock_504 (by decide) (fun c7 => ?_) (fun c7 => ?_)
  · replace hq := hq.1 c7
    refine x_aload_n 2 dX12_checkBlock_561 rfl ?_
    refine x_aload_n 0 dX12_checkBlock_562 rfl ?_
    refine x_iload_n 1 dX12_checkBlock_563 rfl ?_
    refine x_iconst (v := 5) dX12_checkBlock_564 (by decide) ?_
    obtain ⟨g8, hq⟩ := hq
    obtain ⟨g9, g10, hq⟩ := hq
    refine x_callV (Yc := YX12_child) (as := [.int x1, .int 5]) (st := [rv x3]) q4126 mvX12_child g8 rfl dX12_checkBlock_565 (xle (xal1 (rv_cat _) (xal1 rfl (xal1 rfl xal0))) (by decide)) (xfr g9) (xlo (xsw1 (rv_cat _) xsw0) (by decide) g10) (xKi hq (fun x12 h11 hq e13 => ?_) (fun _ _ q _ => q))
    replace hq := hq e13
    obtain ⟨g14, hq⟩ := hq
    obtain ⟨h15, e16⟩ : ∃ y, y = sI h11 x3 6147 x12 := ⟨_, rfl⟩
    replace hq := hq h15 e16
    refine x_putI fdX12_802 xty_I1 dX12_checkBlock_568 g14 (Or.inl (by rw [g14]; rfl)) xnI rfl e16 ?_
    refine x_aload_n 0 dX12_checkBlock_571 rfl ?_
    have t17 : tg h11 x0 = 13 := e13.tg g8 (by decide)
    have t18 : tg h15 x0 = 13 := by rw [e16]; exact t17
    refine x_get (v := .int (fI h15 x0 3124)) fdX12_805 dX12_checkBlock_572 t18 rfl ?_
    refine x_istore (lv' := [(5, .int (fI h15 x0 3124)), (0, rv x0), (1, .int x1), (3, rv x3), (4, rv x4)]) dX12_checkBlock_575 (by decide) (by first | rfl | (simp [rv_cat, Value.category]; done) | (simp [rv_cat, Value.category]; decide)) ?_
    refine x_aload_n 1 dX12_checkBlock_577 rfl ?_
    refine x_iconst (v := 0) dX12_checkBlock_578 (by decide) ?_
    obtain ⟨h19, e20⟩ : ∃ y, y = sI h15 x0 3124 0 := ⟨_, rfl⟩
    replace hq := hq h19 e20
    refine x_putI fdX12_805 xty_I1 dX12_checkBlock_579 t18 (Or.inl (by rw [t18]; rfl)) xnI rfl e20 ?_
    refine x_aload_n 1 dX12_checkBlock_582 rfl ?_
    refine x_aload_n 3 dX12_checkBlock_583 rfl ?_
    have t21 : tg h15 x3 = 25 := by rw [e16]; exact g14
    have t22 : tg h19 x3 = 25 := by rw [e20]; exact t21
    refine x_get (v := .int (fI h19 x3 6147)) fdX12_802 dX12_checkBlock_584 t22 rfl ?_
    have t23 : tg h19 x0 = 13 := by rw [e20]; exact t18
    obtain ⟨g24, g25, hq⟩ := hq
    refine x_callV (Yc := YX12_checkStatement) (as := [.int (fI h19 x3 6147)]) (st := []) q4300 mvX12_checkStatement t23 rfl dX12_checkBlock_587 (xle (xal1 (rv_cat _) (xal1 rfl xal0)) (by decide)) (xfr g24) (xlo xsw0 (by decide) g25) (xKv hq (fun h26 hq e28 => ?_) (fun _ _ q _ => q))
    replace hq := hq e28
    refine x_aload_n 1 dX12_checkBlock_590 rfl ?_
    refine x_iload 0 dX12_checkBlock_591 rfl ?_
    have t29 : tg h26 x0 = 13 := e28.tg t23 (by decide)
    obtain ⟨h30, e31⟩ : ∃ y, y = sI h26 x0 3124 (fI h15 x0 3124) := ⟨_, rfl⟩
    replace hq := hq h30 e31
    refine x_putI fdX12_805 xty_I1 dX12_checkBlock_593 t29 (Or.inl (by rw [t29]; rfl)) xnI rfl e31 ?_
    refine x_iconst (v := 0) dX12_checkBlock_596 (by decide) ?_
    refine x_istore (lv' := [(6, .int 0), (5, .int (fI h15 x0 3124)), (0, rv x0), (1, .int x1), (3, rv x3), (4, rv x4)]) dX12_checkBlock_597 (by decide) rfl ?_
    refine xP.pick (lv' := [(0, rv x0), (3, rv x3), (6, .int 0)]) [2, 4, 0] rfl ?_
    exact hq
  · replace hq := hq.2 c7
    refine x_aload 3 dX12_checkBlock_507 rfl ?_
    refine x_iload 4 dX12_checkBlock_509 rfl ?_
    have t32 : tg h4 x4 = 29 := e6.tg g1 (by decide)
    obtain ⟨g33, g34, hq⟩ := hq
    refine x_callV (Yc := YJ2_get) (as := [.int x5]) (st := []) q4109 mvJ2_get t32 rfl dX12_checkBlock_511 (xle (xal1 (rv_cat _) (xal1 rfl xal0)) (by decide)) (xfr g33) (xlo xsw0 (by decide) g34) (xKr hq (fun x36 h35 hq e37 => ?_) (fun _ _ q _ => q))
    replace hq := hq e37
    obtain ⟨g38, hq⟩ := hq
    refine x_cast (ci := 23) (by decide) rfl q3206 g38 dX12_checkBlock_514 ?_
    refine x_astore (lv' := [(6, rv x36), (0, rv x0), (1, .int x1), (3, rv x3), (4, rv x4), (5, .int x5)]) dX12_checkBlock_517 (by decide) rfl ?_
    refine x_aload 0 dX12_checkBlock_519 rfl ?_
    refine x_get (v := .int (fI h35 x36 5888)) fdX12_577 dX12_checkBlock_521 g38 rfl ?_
    refine x_iconst (v := 5) dX12_checkBlock_524 (by decide) ?_
    refine x_icmp_ne (tgt := 555) dX12_checkBlock_525 (by decide) (fun c39 => ?_) (fun c39 => ?_)
    · replace hq := hq.1 c39
      refine xP.pick (lv' := [(0, rv x0), (1, .int x1), (3, rv x3), (4, rv x4), (5, .int x5)]) [1, 2, 3, 4, 5] rfl ?_
      exact uX12_checkBlock_555 hq
    · replace hq := hq.2 c39
      refine x_aload 0 dX12_checkBlock_528 rfl ?_
      refine x_get (v := .int (fI h35 x36 5906)) fdX12_796 dX12_checkBlock_530 g38 rfl ?_
      refine x_if_eq (tgt := 555) dX12_checkBlock_533 (by decide) (fun c40 => ?_) (fun c40 => ?_)
      · replace hq := hq.1 c40
        refine xP.pick (lv' := [(0, rv x0), (1, .int x1), (3, rv x3), (4, rv x4), (5, .int x5)]) [1, 2, 3, 4, 5] rfl ?_
        exact uX12_checkBlock_555 hq
      · replace hq := hq.2 c40
        refine x_aload 0 dX12_checkBlock_536 rfl ?_
        refine x_get (v := .int (fI h35 x36 5907)) fdX12_799 dX12_checkBlock_538 g38 rfl ?_
        refine x_if_ne (tgt := 555) dX12_checkBlock_541 (by decide) (fun c41 => ?_) (fun c41 => ?_)
        · replace hq := hq.1 c41
          refine xP.pick (lv' := [(0, rv x0), (1, .int x1), (3, rv x3), (4, rv x4), (5, .int x5)]) [1, 2, 3, 4, 5] rfl ?_
          exact uX12_checkBlock_555 hq
        · replace hq := hq.2 c41
          refine x_aload_n 1 dX12_checkBlock_544 rfl ?_
          refine x_bipush (v := 10) dX12_checkBlock_545 (by decide) ?_
          refine x_aload 0 dX12_checkBlock_547 rfl ?_
          refine x_get (v := .int (fI h35 x36 5913)) fdX12_587 dX12_checkBlock_549 g38 rfl ?_
          obtain ⟨g42, hq⟩ := hq
          obtain ⟨g43, g44, hq⟩ := hq
          refine x_callV (Yc := YX12_refuse) (as := [.int 10, .int (fI h35 x36 5913)]) (st := []) q4095 mvX12_refuse g42 rfl dX12_checkBlock_552 (xle (xal1 (rv_cat _) (xal1 rfl (xal1 rfl xal0))) (by decide)) (xfr g43) (xlo xsw0 (by decide) g44) (xKv hq (fun h45 hq e47 => ?_) (fun _ _ q _ => q))
          replace hq := hq e47
          refine xP.pick (lv' := [(0, rv x0), (1, .int x1), (3, rv x3), (4, rv x4), (5, .int x5)]) [1, 2, 3, 4, 5] rfl ?_
          exact uX12_checkBlock_555 hq
set_option maxRecDepth 100000 in
def bX12_checkBlock_464 (G : xG) (fr lo : Nat) (x0 : Nat) (x1 : Int32) (x3 : Nat) (x4 : Int32) (h : xH) (Q : Outcome → xH → Prop) : Prop := ((x4 = (-1) → tg h x0 = 13 ∧ 1 ≤ fr ∧ 12 ≤ lo ∧ xRr G YX12_here (fr - 1) (lo - 12) [rv x0] h (fun x6 h5 => xext h h5 → lX12_checkBlock_497 G fr lo x0 x1 x3 x6 0 h5 Q) (fun r h2 => Q (.threw r) h2)) ∧ (¬ x4 = (-1) → tg h x0 = 13 ∧ 1 ≤ fr ∧ 20 ≤ lo ∧ xRv G YX12_checkRoutine (fr - 1) (lo - 20) [rv x0, .int x4] h (fun h11 => xext h h11 → tg h11 (fR h11 x0 3105) = 100 ∧ vp_in x4 (ln h11 (fR h11 x0 3105)) ∧ lX12_checkBlock_464 G fr lo x0 x1 x3 (aI h11 (fR h11 x0 3105) (Int32.toNatClampNeg x4)) h11 Q) (fun r h2 => Q (.threw r) h2)))
set_option maxRecDepth 100000 in
theorem uX12_checkBlock_464 {G : xG} {fr lo : Nat} {x0 : Nat} {x1 : Int32} {x3 : Nat} {x4 : Int32} {h : xH} {Q : Outcome → xH → Prop} (hq : bX12_checkBlock_464 G fr lo x0 x1 x3 x4 h Q) : xP G YX12_checkBlock fr lo 464 [(0, rv x0), (1, .int x1), (3, rv x3), (4, .int x4)] [] h Q := by
  unfold bX12_checkBlock_464 at hq
  refine x_iload 3 dX12_checkBlock_464 rfl ?_
  refine x_iconst (v := (-1)) dX12_checkBlock_466 (by decide) ?_
  refine x_icmp_eq (tgt := 488) dX12_checkBlock_467 (by decide) (fun c1 => ?_) (fun c1 => ?_)
  · replace hq := hq.1 c1
    refine x_aload_n 0 dX12_checkBlock_488 rfl ?_
    obtain ⟨g2, hq⟩ := hq
    obtain ⟨g3, g4, hq⟩ := hq
    refine x_callV (Yc := YX12_here) (as := []) (st := []) q4105 mvX12_here g2 rfl dX12_checkBlock_489 (xle (xal1 (rv_cat _) xal0) (by decide)) (xfr g3) (xlo xsw0 (by decide) g4) (xKr hq (fun x6 h5 hq e7 => ?_) (fun _ _ q _ => q))
    replace hq := hq e7
    refine x_astore (lv' := [(4, rv x6), (0, rv x0), (1, .int x1), (3, rv x3)]) dX12_checkBlock_492 (by decide) (by first | rfl | (simp [rv_cat, Value.category]; done) | (simp [rv_cat, Value.category]; decide)) ?_
    refine x_iconst (v := 0) dX12_checkBlock_494 (by decide) ?_
    refine x_istore (lv' := [(5, .int 0), (4, rv x6), (0, rv x0), (1, .int x1), (3, rv x3)]) dX12_checkBlock_495 (by decide) (by first | rfl | (simp [rv_cat, Value.category]; done) | (simp [rv_cat, Value.category]; decide)) ?_
    refine xP.pick (lv' := [(0, rv x0), (1, .int x1), (3, rv x3), (4, rv x6), (5, .int 0)]) [2, 3, 4, 1, 0] rfl ?_
    exact hq
  · replace hq := hq.2 c1
    refine x_aload_n 0 dX12_checkBlock_470 rfl ?_
    refine x_iload 3 dX12_checkBlock_471 rfl ?_
    obtain ⟨g8, hq⟩ := hq
    obtain ⟨g9, g10, hq⟩ := hq
    refine x_callV (Yc := YX12_checkRoutine) (as := [.int x4]) (st := []) q4271 mvX12_checkRoutine g8 rfl dX12_checkBlock_473 (xle (xal1 (rv_cat _) (xal1 rfl xal0)) (by decide)) (xfr g9) (xlo xsw0 (by decide) g10) (xKv hq (fun h11 hq e13 => ?_) (fun _ _ q _ => q))
    replace hq := hq e13
    refine x_aload_n 0 dX12_checkBlock_476 rfl ?_
    have t14 : tg h11 x0 = 13 := e13.tg g8 (by decide)
    refine x_get (v := rv (fR h11 x0 3105)) fdX12_79 dX12_checkBlock_477 t14 rfl ?_
    refine x_iload 3 dX12_checkBlock_480 rfl ?_
    obtain ⟨g15, hq⟩ := hq
    obtain ⟨i16, hq⟩ := hq
    refine x_iald 0 (Or.inl rfl) g15 i16 dX12_checkBlock_482 ?_
    refine x_istore (lv' := [(4, .int (aI h11 (fR h11 x0 3105) (Int32.toNatClampNeg x4))), (0, rv x0), (1, .int x1), (3, rv x3)]) dX12_checkBlock_483 (by decide) (by first | rfl | (simp [rv_cat, Value.category]; done) | (simp [rv_cat, Value.category]; decide)) ?_
    refine x_goto (tgt := 464) dX12_checkBlock_485 (by decide) ?_
    refine xP.pick (lv' := [(0, rv x0), (1, .int x1), (3, rv x3), (4, .int (aI h11 (fR h11 x0 3105) (Int32.toNatClampNeg x4)))]) [1, 2, 3, 0] rfl ?_
    exact hq
set_option maxRecDepth 100000 in
def bX12_checkBlock_451 (G : xG) (fr lo : Nat) (x0 : Nat) (x1 : Int32) (x3 : Nat) (h : xH) (Q : Outcome → xH → Prop) : Prop := tg h x0 = 13 ∧ 1 ≤ fr ∧ 17 ≤ lo ∧ xRi G YX12_child (fr - 1) (lo - 17) [rv x0, .int x1, .int 4] h (fun x5 h4 => xext h h4 → tg h4 (fR h x0 3103) = 100 ∧ vp_in x5 (ln h4 (fR h x0 3103)) ∧ lX12_checkBlock_464 G fr lo x0 x1 x3 (aI h4 (fR h x0 3103) (Int32.toNatClampNeg x5)) h4 Q) (fun r h2 => Q (.threw r) h2)
set_option maxRecDepth 100000 in
theorem uX12_checkBlock_451 {G : xG} {fr lo : Nat} {x0 : Nat} {x1 : Int32} {x3 : Nat} {h : xH} {Q : Outcome → xH → Prop} (hq : bX12_checkBlock_451 G fr lo x0 x1 x3 h Q) : xP G YX12_checkBlock fr lo 451 [(0, rv x0), (1, .int x1), (3, rv x3)] [] h Q := by
  unfold bX12_checkBlock_451 at hq
  refine x_aload_n 0 dX12_checkBlock_451 rfl ?_
  obtain ⟨g1, hq⟩ := hq
  refine x_get (v := rv (fR h x0 3103)) fdX12_73 dX12_checkBlock_452 g1 rfl ?_
  refine x_aload_n 0 dX12_checkBlock_455 rfl ?_
  refine x_iload_n 1 dX12_checkBlock_456 rfl ?_
  refine x_iconst (v := 4) dX12_checkBlock_457 (by decide) ?_
  obtain ⟨g2, g3, hq⟩ := hq
  refine x_callV (Yc := YX12_child) (as := [.int x1, .int 4]) (st := [rv (fR h x0 3103)]) q4126 mvX12_child g1 rfl dX12_checkBlock_458 (xle (xal1 (rv_cat _) (xal1 rfl (xal1 rfl xal0))) (by decide)) (xfr g2) (xlo (xsw1 (rv_cat _) xsw0) (by decide) g3) (xKi hq (fun x5 h4 hq e6 => ?_) (fun _ _ q _ => q))
  replace hq := hq e6
  obtain ⟨g7, hq⟩ := hq
  obtain ⟨i8, hq⟩ := hq
  refine x_iald 0 (Or.inl rfl) g7 i8 dX12_checkBlock_461 ?_
  refine x_istore (lv' := [(4, .int (aI h4 (fR h x0 3103) (Int32.toNatClampNeg x5))), (0, rv x0), (1, .int x1), (3, rv x3)]) dX12_checkBlock_462 (by decide) (by first | rfl | (simp [rv_cat, Value.category]; done) | (simp [rv_cat, Value.category]; decide)) ?_
  refine xP.pick (lv' := [(0, rv x0), (1, .int x1), (3, rv x3), (4, .int (aI h4 (fR h x0 3103) (Int32.toNatClampNeg x5)))]) [1, 2, 3, 0] rfl ?_
  exact hq
set_option maxRecDepth 100000 in
def bX12_checkBlock_394 (G : xG) (fr lo : Nat) (x0 : Nat) (x1 : Int32) (x2 : Int32) (x3 : Nat) (x4 : Int32) (x5 : Nat) (x6 : Int32) (h : xH) (Q : Outcome → xH → Prop) : Prop := ((x6 = (-1) → tg h x0 = 13 ∧ tg h (fR h x0 3105) = 100 ∧ vp_in x4 (ln h (fR h x0 3105)) ∧ lX12_checkBlock_361 G fr lo x0 x1 x2 x3 (aI h (fR h x0 3105) (Int32.toNatClampNeg x4)) h Q) ∧ (¬ x6 = (-1) → tg h x0 = 13 ∧ tg h (fR h x0 3102) = 100 ∧ vp_in x6 (ln h (fR h x0 3102)) ∧ 1 ≤ fr ∧ 15 ≤ lo ∧ xRr G YX12_variable (fr - 1) (lo - 15) [rv x0, .int (aI h (fR h x0 3102) (Int32.toNatClampNeg x6)), rv x5] h (fun x11 h10 => xext h h10 → tg h10 x11 = 24 ∧ (∀ h14 : xH, h14 = sI h10 x11 5898 1 → tg h14 (fR h14 x0 3105) = 100 ∧ vp_in x6 (ln h14 (fR h14 x0 3105)) ∧ lX12_checkBlock_394 G fr lo x0 x1 x2 x3 x4 x5 (aI h14 (fR h14 x0 3105) (Int32.toNatClampNeg x6)) h14 Q)) (fun r h2 => Q (.threw r) h2)))
set_option maxRecDepth 100000 in
theorem uX12_checkBlock_394 {G : xG} {fr lo : Nat} {x0 : Nat} {x1 : Int32} {x2 : Int32} {x3 : Nat} {x4 : Int32} {x5 : Nat} {x6 : Int32} {h : xH} {Q : Outcome → xH → Prop} (hq : bX12_checkBlock_394 G fr lo x0 x1 x2 x3 x4 x5 x6 h Q) : xP G YX12_checkBlock fr lo 394 [(0, rv x0), (1, .int x1), (2, .int x2), (3, rv x3), (4, .int x4), (5, rv x5), (6, .int x6)] [] h Q := by
  unfold bX12_checkBlock_394 at hq
  refine x_iload 6 dX12_checkBlock_394 rfl ?_
  refine x_iconst (v := (-1)) dX12_checkBlock_396 (by decide) ?_
  refine x_icmp_eq (tgt := 429) dX12_checkBlock_397 (by decide) (fun c1 => ?_) (fun c1 => ?_)
  · replace hq := hq.1 c1
    refine x_aload_n 0 dX12_checkBlock_429 rfl ?_
    obtain ⟨g2, hq⟩ := hq
    refine x_get (v := rv (fR h x0 3105)) fdX12_79 dX12_checkBlock_430 g2 rfl ?_
    refine x_iload 4 dX12_checkBlock_433 rfl ?_
    obtain ⟨g3, hq⟩ := hq
    obtain ⟨i4, hq⟩ := hq
    refine x_iald 0 (Or.inl rfl) g3 i4 dX12_checkBlock_435 ?_
    refine x_istore (lv' := [(4, .int (aI h (fR h x0 3105) (Int32.toNatClampNeg x4))), (0, rv x0), (1, .int x1), (2, .int x2), (3, rv x3), (5, rv x5), (6, .int x6)]) dX12_checkBlock_436 (by decide) (by first | rfl | (simp [rv_cat, Value.category]; done) | (simp [rv_cat, Value.category]; decide)) ?_
    refine x_goto (tgt := 361) dX12_checkBlock_438 (by decide) ?_
    refine xP.pick (lv' := [(0, rv x0), (1, .int x1), (2, .int x2), (3, rv x3), (4, .int (aI h (fR h x0 3105) (Int32.toNatClampNeg x4)))]) [1, 2, 3, 4, 0] rfl ?_
    exact hq
  · replace hq := hq.2 c1
    refine x_aload_n 0 dX12_checkBlock_400 rfl ?_
    refine x_aload_n 0 dX12_checkBlock_401 rfl ?_
    obtain ⟨g5, hq⟩ := hq
    refine x_get (v := rv (fR h x0 3102)) fdX12_70 dX12_checkBlock_402 g5 rfl ?_
    refine x_iload 6 dX12_checkBlock_405 rfl ?_
    obtain ⟨g6, hq⟩ := hq
    obtain ⟨i7, hq⟩ := hq
    refine x_iald 0 (Or.inl rfl) g6 i7 dX12_checkBlock_407 ?_
    refine x_aload 5 dX12_checkBlock_408 rfl ?_
    obtain ⟨g8, g9, hq⟩ := hq
    refine x_callV (Yc := YX12_variable) (as := [.int (aI h (fR h x0 3102) (Int32.toNatClampNeg x6)), rv x5]) (st := []) q4101 mvX12_variable g5 rfl dX12_checkBlock_410 (xle (xal1 (rv_cat _) (xal1 rfl (xal1 (rv_cat _) xal0))) (by decide)) (xfr g8) (xlo xsw0 (by decide) g9) (xKr hq (fun x11 h10 hq e12 => ?_) (fun _ _ q _ => q))
    replace hq := hq e12
    refine x_iconst (v := 1) dX12_checkBlock_413 (by decide) ?_
    obtain ⟨g13, hq⟩ := hq
    obtain ⟨h14, e15⟩ : ∃ y, y = sI h10 x11 5898 1 := ⟨_, rfl⟩
    replace hq := hq h14 e15
    refine x_putI fdX12_787 xty_Z1 dX12_checkBlock_414 g13 (Or.inl (by rw [g13]; rfl)) (xnB (Or.inr rfl)) rfl e15 ?_
    refine x_aload_n 0 dX12_checkBlock_417 rfl ?_
    have t16 : tg h10 x0 = 13 := e12.tg g5 (by decide)
    have t17 : tg h14 x0 = 13 := by rw [e15]; exact t16
    refine x_get (v := rv (fR h14 x0 3105)) fdX12_79 dX12_checkBlock_418 t17 rfl ?_
    refine x_iload 6 dX12_checkBlock_421 rfl ?_
    obtain ⟨g18, hq⟩ := hq
    obtain ⟨i19, hq⟩ := hq
    refine x_iald 0 (Or.inl rfl) g18 i19 dX12_checkBlock_423 ?_
    refine x_istore (lv' := [(6, .int (aI h14 (fR h14 x0 3105) (Int32.toNatClampNeg x6))), (0, rv x0), (1, .int x1), (2, .int x2), (3, rv x3), (4, .int x4), (5, rv x5)]) dX12_checkBlock_424 (by decide) (by first | rfl | (simp [rv_cat, Value.category]; done) | (simp [rv_cat, Value.category]; decide)) ?_
    refine x_goto (tgt := 394) dX12_checkBlock_426 (by decide) ?_
    refine xP.pick (lv' := [(0, rv x0), (1, .int x1), (2, .int x2), (3, rv x3), (4, .int x4), (5, rv x5), (6, .int (aI h14 (fR h14 x0 3105) (Int32.toNatClampNeg x6)))]) [1, 2, 3, 4, 5, 6, 0] rfl ?_
    exact hq
set_option maxRecDepth 100000 in
def bX12_checkBlock_361 (G : xG) (fr lo : Nat) (x0 : Nat) (x1 : Int32) (x2 : Int32) (x3 : Nat) (x4 : Int32) (h : xH) (Q : Outcome → xH → Prop) : Prop := ((x4 = (-1) → ((x2 = (-1) → bX12_checkBlock_451 G fr lo x0 x1 x3 h Q) ∧ (¬ x2 = (-1) → tg h x0 = 13 ∧ 1 ≤ fr ∧ 16 ≤ lo ∧ xRv G YX12_checkHead (fr - 1) (lo - 16) [rv x0, .int x2] h (fun h6 => xext h h6 → bX12_checkBlock_451 G fr lo x0 x1 x3 h6 Q) (fun r h2 => Q (.threw r) h2)))) ∧ (¬ x4 = (-1) → tg h x0 = 13 ∧ 1 ≤ fr ∧ 17 ≤ lo ∧ xRi G YX12_child (fr - 1) (lo - 17) [rv x0, .int x4, .int 1] h (fun x13 h12 => xext h h12 → 1 ≤ fr ∧ 16 ≤ lo ∧ xRr G YX12_typeOf (fr - 1) (lo - 16) [rv x0, .int x13] h12 (fun x19 h18 => xext h12 h18 → tg h18 (fR h18 x0 3103) = 100 ∧ vp_in x4 (ln h18 (fR h18 x0 3103)) ∧ vp_in (aI h18 (fR h18 x0 3103) (Int32.toNatClampNeg x4)) (ln h18 (fR h18 x0 3103)) ∧ lX12_checkBlock_394 G fr lo x0 x1 x2 x3 x4 x19 (aI h18 (fR h18 x0 3103) (Int32.toNatClampNeg (aI h18 (fR h18 x0 3103) (Int32.toNatClampNeg x4)))) h18 Q) (fun r h2 => Q (.threw r) h2)) (fun r h2 => Q (.threw r) h2)))
set_option maxRecDepth 100000 in
theorem uX12_checkBlock_361 {G : xG} {fr lo : Nat} {x0 : Nat} {x1 : Int32} {x2 : Int32} {x3 : Nat} {x4 : Int32} {h : xH} {Q : Outcome → xH → Prop} (hq : bX12_checkBlock_361 G fr lo x0 x1 x2 x3 x4 h Q) : xP G YX12_checkBlock fr lo 361 [(0, rv x0), (1, .int x1), (2, .int x2), (3, rv x3), (4, .int x4)] [] h Q := by
  unfold bX12_checkBlock_361 at hq
  refine x_iload 4 dX12_checkBlock_361 rfl ?_
  refine x_iconst (v := (-1)) dX12_checkBlock_363 (by decide) ?_
  refine x_icmp_eq (tgt := 441) dX12_checkBlock_364 (by decide) (fun c1 => ?_) (fun c1 => ?_)
  · replace hq := hq.1 c1
    refine x_iload_n 2 dX12_checkBlock_441 rfl ?_
    refine x_iconst (v := (-1)) dX12_checkBlock_442 (by decide) ?_
    refine x_icmp_eq (tgt := 451) dX12_checkBlock_443 (by decide) (fun c2 => ?_) (fun c2 => ?_)
    · replace hq := hq.1 c2
      refine xP.pick (lv' := [(0, rv x0), (1, .int x1), (3, rv x3)]) [0, 1, 3] rfl ?_
      exact uX12_checkBlock_451 hq
    · replace hq := hq.2 c2
      refine x_aload_n 0 dX12_checkBlock_446 rfl ?_
      refine x_iload_n 2 dX12_checkBlock_447 rfl ?_
      obtain ⟨g3, hq⟩ := hq
      obtain ⟨g4, g5, hq⟩ := hq
      refine x_callV (Yc := YX12_checkHead) (as := [.int x2]) (st := []) q4263 mvX12_checkHead g3 rfl dX12_checkBlock_448 (xle (xal1 (rv_cat _) (xal1 rfl xal0)) (by decide)) (xfr g4) (xlo xsw0 (by decide) g5) (xKv hq (fun h6 hq e8 => ?_) (fun _ _ q _ => q))
      replace hq := hq e8
      refine xP.pick (lv' := [(0, rv x0), (1, .int x1), (3, rv x3)]) [0, 1, 3] rfl ?_
      exact uX12_checkBlock_451 hq
  · replace hq := hq.2 c1
    refine x_aload_n 0 dX12_checkBlock_367 rfl ?_
    refine x_aload_n 0 dX12_checkBlock_368 rfl ?_
    refine x_iload 4 dX12_checkBlock_369 rfl ?_
    refine x_iconst (v := 1) dX12_checkBlock_371 (by decide) ?_
    obtain ⟨g9, hq⟩ := hq
    obtain ⟨g10, g11, hq⟩ := hq
    refine x_callV (Yc := YX12_child) (as := [.int x4, .int 1]) (st := [rv x0]) q4126 mvX12_child g9 rfl dX12_checkBlock_372 (xle (xal1 (rv_cat _) (xal1 rfl (xal1 rfl xal0))) (by decide)) (xfr g10) (xlo (xsw1 (rv_cat _) xsw0) (by decide) g11) (xKi hq (fun x13 h12 hq e14 => ?_) (fun _ _ q _ => q))
    replace hq := hq e14
    have t15 : tg h12 x0 = 13 := e14.tg g9 (by decide)
    obtain ⟨g16, g17, hq⟩ := hq
    refine x_callV (Yc := YX12_typeOf) (as := [.int x13]) (st := []) q4173 mvX12_typeOf t15 rfl dX12_checkBlock_375 (xle (xal1 (rv_cat _) (xal1 rfl xal0)) (by decide)) (xfr g16) (xlo xsw0 (by decide) g17) (xKr hq (fun x19 h18 hq e20 => ?_) (fun _ _ q _ => q))
    replace hq := hq e20
    refine x_astore (lv' := [(5, rv x19), (0, rv x0), (1, .int x1), (2, .int x2), (3, rv x3), (4, .int x4)]) dX12_checkBlock_378 (by decide) rfl ?_
    refine x_aload_n 1 dX12_checkBlock_380 rfl ?_
    have t21 : tg h18 x0 = 13 := e20.tg t15 (by decide)
    refine x_get (v := rv (fR h18 x0 3103)) fdX12_73 dX12_checkBlock_381 t21 rfl ?_
    refine x_aload_n 1 dX12_checkBlock_384 rfl ?_
    refine x_get (v := rv (fR h18 x0 3103)) fdX12_73 dX12_checkBlock_385 t21 rfl ?_
    refine x_iload 5 dX12_checkBlock_388 rfl ?_
    obtain ⟨g22, hq⟩ := hq
    obtain ⟨i23, hq⟩ := hq
    refine x_iald 0 (Or.inl rfl) g22 i23 dX12_checkBlock_390 ?_
    obtain ⟨i24, hq⟩ := hq
    refine x_iald 0 (Or.inl rfl) g22 i24 dX12_checkBlock_391 ?_
    refine x_istore (lv' := [(6, .int (aI h18 (fR h18 x0 3103) (Int32.toNatClampNeg (aI h18 (fR h18 x0 3103) (Int32.toNatClampNeg x4))))), (5, rv x19), (0, rv x0), (1, .int x1), (2, .int x2), (3, rv x3), (4, .int x4)]) dX12_checkBlock_392 (by decide) (by first | rfl | (simp [rv_cat, Value.category]; done) | (simp [rv_cat, Value.category]; decide)) ?_
    refine xP.pick (lv' := [(0, rv x0), (1, .int x1), (2, .int x2), (3, rv x3), (4, .int x4), (5, rv x19), (6, .int (aI h18 (fR h18 x0 3103) (Int32.toNatClampNeg (aI h18 (fR h18 x0 3103) (Int32.toNatClampNeg x4)))))]) [2, 3, 4, 5, 6, 1, 0] rfl ?_
    exact hq
set_option maxRecDepth 100000 in
def bX12_checkBlock_300 (G : xG) (fr lo : Nat) (x0 : Nat) (x1 : Int32) (x2 : Int32) (x3 : Nat) (x4 : Int32) (h : xH) (Q : Outcome → xH → Prop) : Prop := tg h x0 = 13 ∧ tg h (fR h x0 3132) = 29 ∧ 1 ≤ fr ∧ 13 ≤ lo ∧ xRi G YJ2_size (fr - 1) (lo - 13) [rv (fR h x0 3132)] h (fun x6 h5 => xext h h5 → ((x6 ≤ x4 → tg h5 (fR h5 x0 3132) = 29 ∧ 1 ≤ fr ∧ 15 ≤ lo ∧ xRv G YJ2_clear (fr - 1) (lo - 15) [rv (fR h5 x0 3132)] h5 (fun h13 => xext h5 h13 → 1 ≤ fr ∧ 17 ≤ lo ∧ xRi G YX12_child (fr - 1) (lo - 17) [rv x0, .int x1, .int 3] h13 (fun x20 h19 => xext h13 h19 → tg h19 (fR h13 x0 3103) = 100 ∧ vp_in x20 (ln h19 (fR h13 x0 3103)) ∧ lX12_checkBlock_361 G fr lo x0 x1 x2 x3 (aI h19 (fR h13 x0 3103) (Int32.toNatClampNeg x20)) h19 Q) (fun r h2 => Q (.threw r) h2)) (fun r h2 => Q (.threw r) h2)) ∧ (¬ x6 ≤ x4 → tg h5 (fR h5 x0 3132) = 29 ∧ 1 ≤ fr ∧ 14 ≤ lo ∧ xRr G YJ2_get (fr - 1) (lo - 14) [rv (fR h5 x0 3132), .int x4] h5 (fun x29 h28 => xext h5 h28 → tg h28 x29 = 14 ∧ tg h28 (fR h28 x0 3133) = 100 ∧ vp_in x4 (ln h28 (fR h28 x0 3133)) ∧ 1 ≤ fr ∧ 15 ≤ lo ∧ xRv G YX12_point (fr - 1) (lo - 15) [rv x0, rv x29, .int (aI h28 (fR h28 x0 3133) (Int32.toNatClampNeg x4))] h28 (fun h37 => xext h28 h37 → lX12_checkBlock_300 G fr lo x0 x1 x2 x3 (x4 + 1) h37 Q) (fun r h2 => Q (.threw r) h2)) (fun r h2 => Q (.threw r) h2)))) (fun r h2 => Q (.threw r) h2)
set_option maxRecDepth 100000 in
theorem uX12_checkBlock_300 {G : xG} {fr lo : Nat} {x0 : Nat} {x1 : Int32} {x2 : Int32} {x3 : Nat} {x4 : Int32} {h : xH} {Q : Outcome → xH → Prop} (hq : bX12_checkBlock_300 G fr lo x0 x1 x2 x3 x4 h Q) : xP G YX12_checkBlock fr lo 300 [(0, rv x0), (1, .int x1), (2, .int x2), (3, rv x3), (4, .int x4)] [] h Q := by
  unfold bX12_checkBlock_300 at hq
  refine x_iload 4 dX12_checkBlock_300 rfl ?_
  refine x_aload_n 0 dX12_checkBlock_302 rfl ?_
  obtain ⟨g1, hq⟩ := hq
  refine x_get (v := rv (fR h x0 3132)) fdX12_150 dX12_checkBlock_303 g1 rfl ?_
  obtain ⟨g2, hq⟩ := hq
  obtain ⟨g3, g4, hq⟩ := hq
  refine x_callV (Yc := YJ2_size) (as := []) (st := [.int x4]) q4067 mvJ2_size g2 rfl dX12_checkBlock_306 (xle (xal1 (rv_cat _) xal0) (by decide)) (xfr g3) (xlo (xsw1 rfl xsw0) (by decide) g4) (xKi hq (fun x6 h5 hq e7 => ?_) (fun _ _ q _ => q))
  replace hq := hq e7
  refine x_icmp_ge (tgt := 341) dX12_checkBlock_309 (by decide) (fun c8 => ?_) (fun c8 => ?_)
  · replace hq := hq.1 c8
    refine x_aload_n 0 dX12_checkBlock_341 rfl ?_
    have t9 : tg h5 x0 = 13 := e7.tg g1 (by decide)
    refine x_get (v := rv (fR h5 x0 3132)) fdX12_150 dX12_checkBlock_342 t9 rfl ?_
    obtain ⟨g10, hq⟩ := hq
    obtain ⟨g11, g12, hq⟩ := hq
    refine x_callV (Yc := YJ2_clear) (as := []) (st := []) q3663 mvJ2_clear g10 rfl dX12_checkBlock_345 (xle (xal1 (rv_cat _) xal0) (by decide)) (xfr g11) (xlo xsw0 (by decide) g12) (xKv hq (fun h13 hq e15 => ?_) (fun _ _ q _ => q))
    replace hq := hq e15
    refine x_aload_n 0 dX12_checkBlock_348 rfl ?_
    have t16 : tg h13 x0 = 13 := e15.tg t9 (by decide)
    refine x_get (v := rv (fR h13 x0 3103)) fdX12_73 dX12_checkBlock_349 t16 rfl ?_
    refine x_aload_n 0 dX12_checkBlock_352 rfl ?_
    refine x_iload_n 1 dX12_checkBlock_353 rfl ?_
    refine x_iconst (v := 3) dX12_checkBlock_354 (by decide) ?_
    obtain ⟨g17, g18, hq⟩ := hq
    refine x_callV (Yc := YX12_child) (as := [.int x1, .int 3]) (st := [rv (fR h13 x0 3103)]) q4126 mvX12_child t16 rfl dX12_checkBlock_355 (xle (xal1 (rv_cat _) (xal1 rfl (xal1 rfl xal0))) (by decide)) (xfr g17) (xlo (xsw1 (rv_cat _) xsw0) (by decide) g18) (xKi hq (fun x20 h19 hq e21 => ?_) (fun _ _ q _ => q))
    replace hq := hq e21
    obtain ⟨g22, hq⟩ := hq
    obtain ⟨i23, hq⟩ := hq
    refine x_iald 0 (Or.inl rfl) g22 i23 dX12_checkBlock_358 ?_
    refine x_istore (lv' := [(4, .int (aI h19 (fR h13 x0 3103) (Int32.toNatClampNeg x20))), (0, rv x0), (1, .int x1), (2, .int x2), (3, rv x3)]) dX12_checkBlock_359 (by decide) (by first | rfl | (simp [rv_cat, Value.category]; done) | (simp [rv_cat, Value.category]; decide)) ?_
    refine xP.pick (lv' := [(0, rv x0), (1, .int x1), (2, .int x2), (3, rv x3), (4, .int (aI h19 (fR h13 x0 3103) (Int32.toNatClampNeg x20)))]) [1, 2, 3, 4, 0] rfl ?_
    exact hq
  · replace hq := hq.2 c8
    refine x_aload_n 0 dX12_checkBlock_312 rfl ?_
    refine x_aload_n 0 dX12_checkBlock_313 rfl ?_
    have t24 : tg h5 x0 = 13 := e7.tg g1 (by decide)
    refine x_get (v := rv (fR h5 x0 3132)) fdX12_150 dX12_checkBlock_314 t24 rfl ?_
    refine x_iload 4 dX12_checkBlock_317 rfl ?_
    obtain ⟨g25, hq⟩ := hq
    obtain ⟨g26, g27, hq⟩ := hq
    refine x_callV (Yc := YJ2_get) (as := [.int x4]) (st := [rv x0]) q4109 mvJ2_get g25 rfl dX12_checkBlock_319 (xle (xal1 (rv_cat _) (xal1 rfl xal0)) (by decide)) (xfr g26) (xlo (xsw1 (rv_cat _) xsw0) (by decide) g27) (xKr hq (fun x29 h28 hq e30 => ?_) (fun _ _ q _ => q))
    replace hq := hq e30
    obtain ⟨g31, hq⟩ := hq
    refine x_cast (ci := 13) (by decide) rfl q3204 g31 dX12_checkBlock_322 ?_
    refine x_aload_n 0 dX12_checkBlock_325 rfl ?_
    have t32 : tg h28 x0 = 13 := e30.tg t24 (by decide)
    refine x_get (v := rv (fR h28 x0 3133)) fdX12_153 dX12_checkBlock_326 t32 rfl ?_
    refine x_iload 4 dX12_checkBlock_329 rfl ?_
    obtain ⟨g33, hq⟩ := hq
    obtain ⟨i34, hq⟩ := hq
    refine x_iald 0 (Or.inl rfl) g33 i34 dX12_checkBlock_331 ?_
    obtain ⟨g35, g36, hq⟩ := hq
    refine x_callV (Yc := YX12_point) (as := [rv x29, .int (aI h28 (fR h28 x0 3133) (Int32.toNatClampNeg x4))]) (st := []) q4177 mvX12_point t32 rfl dX12_checkBlock_332 (xle (xal1 (rv_cat _) (xal1 (rv_cat _) (xal1 rfl xal0))) (by decide)) (xfr g35) (xlo xsw0 (by decide) g36) (xKv hq (fun h37 hq e39 => ?_) (fun _ _ q _ => q))
    replace hq := hq e39
    refine x_iinc (lv' := [(4, .int (x4 + 1)), (0, rv x0), (1, .int x1), (2, .int x2), (3, rv x3)]) 4 dX12_checkBlock_335 rfl (by decide) (by first | rfl | (simp [rv_cat, Value.category]; done) | (simp [rv_cat, Value.category]; decide)) ?_
    refine x_goto (tgt := 300) dX12_checkBlock_338 (by decide) ?_
    refine xP.pick (lv' := [(0, rv x0), (1, .int x1), (2, .int x2), (3, rv x3), (4, .int (x4 + 1))]) [1, 2, 3, 4, 0] rfl ?_
    exact hq
set_option maxRecDepth 100000 in
def bX12_checkBlock_240 (G : xG) (fr lo : Nat) (x0 : Nat) (x1 : Int32) (x2 : Int32) (x3 : Nat) (x4 : Int32) (h : xH) (Q : Outcome → xH → Prop) : Prop := ((x4 = (-1) → tg h x0 = 13 ∧ (∀ h3 : xH, h3 = sI h x0 3131 0 → lX12_checkBlock_300 G fr lo x0 x1 x2 x3 0 h3 Q)) ∧ (¬ x4 = (-1) → tg h x0 = 13 ∧ tg h (fR h x0 3103) = 100 ∧ vp_in x4 (ln h (fR h x0 3103)) ∧ 1 ≤ fr ∧ 16 ≤ lo ∧ xRr G YX12_typeOf (fr - 1) (lo - 16) [rv x0, .int (aI h (fR h x0 3103) (Int32.toNatClampNeg x4))] h (fun x11 h10 => xext h h10 → tg h10 (fR h10 x0 3102) = 100 ∧ vp_in x4 (ln h10 (fR h10 x0 3102)) ∧ 1 ≤ fr ∧ 15 ≤ lo ∧ xRr G YX12_here (fr - 1) (lo - 15) [rv x0] h10 (fun x19 h18 => xext h10 h18 → 1 ≤ fr ∧ 16 ≤ lo ∧ xRr G YX12_define (fr - 1) (lo - 16) [rv x0, .int 2, .int (aI h10 (fR h10 x0 3102) (Int32.toNatClampNeg x4)), rv x19] h18 (fun x25 h24 => xext h18 h24 → tg h24 x25 = 24 ∧ (∀ h28 : xH, h28 = sR h24 x25 5890 x11 → tg h28 (fR h28 x0 3105) = 100 ∧ vp_in x4 (ln h28 (fR h28 x0 3105)) ∧ lX12_checkBlock_240 G fr lo x0 x1 x2 x3 (aI h28 (fR h28 x0 3105) (Int32.toNatClampNeg x4)) h28 Q)) (fun r h2 => Q (.threw r) h2)) (fun r h2 => Q (.threw r) h2)) (fun r h2 => Q (.threw r) h2)))
set_option maxRecDepth 100000 in
theorem uX12_checkBlock_240 {G : xG} {fr lo : Nat} {x0 : Nat} {x1 : Int32} {x2 : Int32} {x3 : Nat} {x4 : Int32} {h : xH} {Q : Outcome → xH → Prop} (hq : bX12_checkBlock_240 G fr lo x0 x1 x2 x3 x4 h Q) : xP G YX12_checkBlock fr lo 240 [(0, rv x0), (1, .int x1), (2, .int x2), (3, rv x3), (4, .int x4)] [] h Q := by
  unfold bX12_checkBlock_240 at hq
  refine x_iload 4 dX12_checkBlock_240 rfl ?_
  refine x_iconst (v := (-1)) dX12_checkBlock_242 (by decide) ?_
  refine x_icmp_eq (tgt := 292) dX12_checkBlock_243 (by decide) (fun c1 => ?_) (fun c1 => ?_)
  · replace hq := hq.1 c1
    refine x_aload_n 0 dX12_checkBlock_292 rfl ?_
    refine x_iconst (v := 0) dX12_checkBlock_293 (by decide) ?_
    obtain ⟨g2, hq⟩ := hq
    obtain ⟨h3, e4⟩ : ∃ y, y = sI h x0 3131 0 := ⟨_, rfl⟩
    replace hq := hq h3 e4
    refine x_putI fdX12_773 xty_Z1 dX12_checkBlock_294 g2 (Or.inl (by rw [g2]; rfl)) (xnB (Or.inl rfl)) rfl e4 ?_
    refine x_iconst (v := 0) dX12_checkBlock_297 (by decide) ?_
    refine x_istore (lv' := [(4, .int 0), (0, rv x0), (1, .int x1), (2, .int x2), (3, rv x3)]) dX12_checkBlock_298 (by decide) (by first | rfl | (simp [rv_cat, Value.category]; done) | (simp [rv_cat, Value.category]; decide)) ?_
    refine xP.pick (lv' := [(0, rv x0), (1, .int x1), (2, .int x2), (3, rv x3), (4, .int 0)]) [1, 2, 3, 4, 0] rfl ?_
    exact hq
  · replace hq := hq.2 c1
    refine x_aload_n 0 dX12_checkBlock_246 rfl ?_
    refine x_aload_n 0 dX12_checkBlock_247 rfl ?_
    obtain ⟨g5, hq⟩ := hq
    refine x_get (v := rv (fR h x0 3103)) fdX12_73 dX12_checkBlock_248 g5 rfl ?_
    refine x_iload 4 dX12_checkBlock_251 rfl ?_
    obtain ⟨g6, hq⟩ := hq
    obtain ⟨i7, hq⟩ := hq
    refine x_iald 0 (Or.inl rfl) g6 i7 dX12_checkBlock_253 ?_
    obtain ⟨g8, g9, hq⟩ := hq
    refine x_callV (Yc := YX12_typeOf) (as := [.int (aI h (fR h x0 3103) (Int32.toNatClampNeg x4))]) (st := []) q4173 mvX12_typeOf g5 rfl dX12_checkBlock_254 (xle (xal1 (rv_cat _) (xal1 rfl xal0)) (by decide)) (xfr g8) (xlo xsw0 (by decide) g9) (xKr hq (fun x11 h10 hq e12 => ?_) (fun _ _ q _ => q))
    replace hq := hq e12
    refine x_astore (lv' := [(5, rv x11), (0, rv x0), (1, .int x1), (2, .int x2), (3, rv x3), (4, .int x4)]) dX12_checkBlock_257 (by decide) rfl ?_
    refine x_aload_n 1 dX12_checkBlock_259 rfl ?_
    refine x_iconst (v := 2) dX12_checkBlock_260 (by decide) ?_
    refine x_aload_n 1 dX12_checkBlock_261 rfl ?_
    have t13 : tg h10 x0 = 13 := e12.tg g5 (by decide)
    refine x_get (v := rv (fR h10 x0 3102)) fdX12_70 dX12_checkBlock_262 t13 rfl ?_
    refine x_iload 5 dX12_checkBlock_265 rfl ?_
    obtain ⟨g14, hq⟩ := hq
    obtain ⟨i15, hq⟩ := hq
    refine x_iald 0 (Or.inl rfl) g14 i15 dX12_checkBlock_267 ?_
    refine x_aload_n 1 dX12_checkBlock_268 rfl ?_
    obtain ⟨g16, g17, hq⟩ := hq
    refine x_callV (Yc := YX12_here) (as := []) (st := [.int (aI h10 (fR h10 x0 3102) (Int32.toNatClampNeg x4)), .int 2, rv x0]) q4105 mvX12_here t13 rfl dX12_checkBlock_269 (xle (xal1 (rv_cat _) xal0) (by decide)) (xfr g16) (xlo (xsw1 rfl (xsw1 rfl (xsw1 (rv_cat _) xsw0))) (by decide) g17) (xKr hq (fun x19 h18 hq e20 => ?_) (fun _ _ q _ => q))
    replace hq := hq e20
    have t21 : tg h18 x0 = 13 := e20.tg t13 (by decide)
    obtain ⟨g22, g23, hq⟩ := hq
    refine x_callV (Yc := YX12_define) (as := [.int 2, .int (aI h10 (fR h10 x0 3102) (Int32.toNatClampNeg x4)), rv x19]) (st := []) q4110 mvX12_define t21 rfl dX12_checkBlock_272 (xle (xal1 (rv_cat _) (xal1 rfl (xal1 rfl (xal1 (rv_cat _) xal0)))) (by decide)) (xfr g22) (xlo xsw0 (by decide) g23) (xKr hq (fun x25 h24 hq e26 => ?_) (fun _ _ q _ => q))
    replace hq := hq e26
    refine x_aload 0 dX12_checkBlock_275 rfl ?_
    obtain ⟨g27, hq⟩ := hq
    obtain ⟨h28, e29⟩ : ∃ y, y = sR h24 x25 5890 x11 := ⟨_, rfl⟩
    replace hq := hq h28 e29
    refine x_putR fdX12_612 xty_O dX12_checkBlock_277 g27 (Or.inl (by rw [g27]; rfl)) rfl e29 ?_
    refine x_aload_n 1 dX12_checkBlock_280 rfl ?_
    have t30 : tg h24 x0 = 13 := e26.tg t21 (by decide)
    have t31 : tg h28 x0 = 13 := by rw [e29]; exact t30
    refine x_get (v := rv (fR h28 x0 3105)) fdX12_79 dX12_checkBlock_281 t31 rfl ?_
    refine x_iload 5 dX12_checkBlock_284 rfl ?_
    obtain ⟨g32, hq⟩ := hq
    obtain ⟨i33, hq⟩ := hq
    refine x_iald 0 (Or.inl rfl) g32 i33 dX12_checkBlock_286 ?_
    refine x_istore (lv' := [(4, .int (aI h28 (fR h28 x0 3105) (Int32.toNatClampNeg x4))), (5, rv x11), (0, rv x0), (1, .int x1), (2, .int x2), (3, rv x3)]) dX12_checkBlock_287 (by decide) (by first | rfl | (simp [rv_cat, Value.category]; done) | (simp [rv_cat, Value.category]; decide)) ?_
    refine x_goto (tgt := 240) dX12_checkBlock_289 (by decide) ?_
    refine xP.pick (lv' := [(0, rv x0), (1, .int x1), (2, .int x2), (3, rv x3), (4, .int (aI h28 (fR h28 x0 3105) (Int32.toNatClampNeg x4)))]) [2, 3, 4, 5, 0] rfl ?_
    exact hq
set_option maxRecDepth 100000 in
def bX12_checkBlock_123 (G : xG) (fr lo : Nat) (x0 : Nat) (x1 : Int32) (x2 : Int32) (x3 : Nat) (x4 : Int32) (h : xH) (Q : Outcome → xH → Prop) : Prop := ((x4 = (-1) → tg h x0 = 13 ∧ (∀ h3 : xH, h3 = sI h x0 3131 1 → 1 ≤ fr ∧ 17 ≤ lo ∧ xRi G YX12_child (fr - 1) (lo - 17) [rv x0, .int x1, .int 2] h3 (fun x9 h8 => xext h3 h8 → tg h8 (fR h3 x0 3103) = 100 ∧ vp_in x9 (ln h8 (fR h3 x0 3103)) ∧ lX12_checkBlock_240 G fr lo x0 x1 x2 x3 (aI h8 (fR h3 x0 3103) (Int32.toNatClampNeg x9)) h8 Q) (fun r h2 => Q (.threw r) h2))) ∧ (¬ x4 = (-1) → tg h x0 = 13 ∧ tg h (fR h x0 3103) = 100 ∧ vp_in x4 (ln h (fR h x0 3103)) ∧ 1 ≤ fr ∧ 15 ≤ lo ∧ xRv G YX12_constant (fr - 1) (lo - 15) [rv x0, .int (aI h (fR h x0 3103) (Int32.toNatClampNeg x4))] h (fun h18 => xext h h18 → tg h18 (fR h18 x0 3102) = 100 ∧ vp_in x4 (ln h18 (fR h18 x0 3102)) ∧ 1 ≤ fr ∧ 15 ≤ lo ∧ xRr G YX12_here (fr - 1) (lo - 15) [rv x0] h18 (fun x27 h26 => xext h18 h26 → 1 ≤ fr ∧ 16 ≤ lo ∧ xRr G YX12_define (fr - 1) (lo - 16) [rv x0, .int 1, .int (aI h18 (fR h18 x0 3102) (Int32.toNatClampNeg x4)), rv x27] h26 (fun x33 h32 => xext h26 h32 → tg h32 x33 = 24 ∧ (∀ h36 : xH, h36 = sR h32 x33 5890 (fR h18 x0 3138) → (∀ h39 : xH, h39 = sJ h36 x33 5891 (fJ h18 x0 3139) → (∀ h42 : xH, h42 = sD h39 x33 5892 (fD h18 x0 3140) → (∀ h45 : xH, h45 = sI h42 x33 5904 (fI h18 x0 3141) → tg h45 (fR h45 x0 3105) = 100 ∧ vp_in x4 (ln h45 (fR h45 x0 3105)) ∧ lX12_checkBlock_123 G fr lo x0 x1 x2 x3 (aI h45 (fR h45 x0 3105) (Int32.toNatClampNeg x4)) h45 Q))))) (fun r h2 => Q (.threw r) h2)) (fun r h2 => Q (.threw r) h2)) (fun r h2 => Q (.threw r) h2)))
set_option maxRecDepth 100000 in
theorem uX12_checkBlock_123 {G : xG} {fr lo : Nat} {x0 : Nat} {x1 : Int32} {x2 : Int32} {x3 : Nat} {x4 : Int32} {h : xH} {Q : Outcome → xH → Prop} (hq : bX12_checkBlock_123 G fr lo x0 x1 x2 x3 x4 h Q) : xP G YX12_checkBlock fr lo 123 [(0, rv x0), (1, .int x1), (2, .int x2), (3, rv x3), (4, .int x4)] [] h Q := by
  unfold bX12_checkBlock_123 at hq
  refine x_iload 4 dX12_checkBlock_123 rfl ?_
  refine x_iconst (v := (-1)) dX12_checkBlock_125 (by decide) ?_
  refine x_icmp_eq (tgt := 222) dX12_checkBlock_126 (by decide) (fun c1 => ?_) (fun c1 => ?_)
  · replace hq := hq.1 c1
    refine x_aload_n 0 dX12_checkBlock_222 rfl ?_
    refine x_iconst (v := 1) dX12_checkBlock_223 (by decide) ?_
    obtain ⟨g2, hq⟩ := hq
    obtain ⟨h3, e4⟩ : ∃ y, y = sI h x0 3131 1 := ⟨_, rfl⟩
    replace hq := hq h3 e4
    refine x_putI fdX12_773 xty_Z1 dX12_checkBlock_224 g2 (Or.inl (by rw [g2]; rfl)) (xnB (Or.inr rfl)) rfl e4 ?_
    refine x_aload_n 0 dX12_checkBlock_227 rfl ?_
    have t5 : tg h3 x0 = 13 := by rw [e4]; exact g2
    refine x_get (v := rv (fR h3 x0 3103)) fdX12_73 dX12_checkBlock_228 t5 rfl ?_
    refine x_aload_n 0 dX12_checkBlock_231 rfl ?_
    refine x_iload_n 1 dX12_checkBlock_232 rfl ?_
    refine x_iconst (v := 2) dX12_checkBlock_233 (by decide) ?_
    obtain ⟨g6, g7, hq⟩ := hq
    refine x_callV (Yc := YX12_child) (as := [.int x1, .int 2]) (st := [rv (fR h3 x0 3103)]) q4126 mvX12_child t5 rfl dX12_checkBlock_234 (xle (xal1 (rv_cat _) (xal1 rfl (xal1 rfl xal0))) (by decide)) (xfr g6) (xlo (xsw1 (rv_cat _) xsw0) (by decide) g7) (xKi hq (fun x9 h8 hq e10 => ?_) (fun _ _ q _ => q))
    replace hq := hq e10
    obtain ⟨g11, hq⟩ := hq
    obtain ⟨i12, hq⟩ := hq
    refine x_iald 0 (Or.inl rfl) g11 i12 dX12_checkBlock_237 ?_
    refine x_istore (lv' := [(4, .int (aI h8 (fR h3 x0 3103) (Int32.toNatClampNeg x9))), (0, rv x0), (1, .int x1), (2, .int x2), (3, rv x3)]) dX12_checkBlock_238 (by decide) (by first | rfl | (simp [rv_cat, Value.category]; done) | (simp [rv_cat, Value.category]; decide)) ?_
    refine xP.pick (lv' := [(0, rv x0), (1, .int x1), (2, .int x2), (3, rv x3), (4, .int (aI h8 (fR h3 x0 3103) (Int32.toNatClampNeg x9)))]) [1, 2, 3, 4, 0] rfl ?_
    exact hq
  · replace hq := hq.2 c1
    refine x_aload_n 0 dX12_checkBlock_129 rfl ?_
    refine x_aload_n 0 dX12_checkBlock_130 rfl ?_
    obtain ⟨g13, hq⟩ := hq
    refine x_get (v := rv (fR h x0 3103)) fdX12_73 dX12_checkBlock_131 g13 rfl ?_
    refine x_iload 4 dX12_checkBlock_134 rfl ?_
    obtain ⟨g14, hq⟩ := hq
    obtain ⟨i15, hq⟩ := hq
    refine x_iald 0 (Or.inl rfl) g14 i15 dX12_checkBlock_136 ?_
    obtain ⟨g16, g17, hq⟩ := hq
    refine x_callV (Yc := YX12_constant) (as := [.int (aI h (fR h x0 3103) (Int32.toNatClampNeg x4))]) (st := []) q4153 mvX12_constant g13 rfl dX12_checkBlock_137 (xle (xal1 (rv_cat _) (xal1 rfl xal0)) (by decide)) (xfr g16) (xlo xsw0 (by decide) g17) (xKv hq (fun h18 hq e20 => ?_) (fun _ _ q _ => q))
    replace hq := hq e20
    refine x_aload_n 0 dX12_checkBlock_140 rfl ?_
    have t21 : tg h18 x0 = 13 := e20.tg g13 (by decide)
    refine x_get (v := rv (fR h18 x0 3138)) fdX12_757 dX12_checkBlock_141 t21 rfl ?_
    refine x_astore (lv' := [(5, rv (fR h18 x0 3138)), (0, rv x0), (1, .int x1), (2, .int x2), (3, rv x3), (4, .int x4)]) dX12_checkBlock_144 (by decide) rfl ?_
    refine x_aload_n 1 dX12_checkBlock_146 rfl ?_
    refine x_get (v := .long (fJ h18 x0 3139)) fdX12_760 dX12_checkBlock_147 t21 rfl ?_
    refine x_lstore (lv' := [(6, .long (fJ h18 x0 3139)), (5, rv (fR h18 x0 3138)), (0, rv x0), (1, .int x1), (2, .int x2), (3, rv x3), (4, .int x4)]) dX12_checkBlock_150 (by decide) (by first | rfl | (simp [rv_cat, Value.category]; done) | (simp [rv_cat, Value.category]; decide)) ?_
    refine x_aload_n 2 dX12_checkBlock_152 rfl ?_
    refine x_get (v := .double (fD h18 x0 3140)) fdX12_763 dX12_checkBlock_153 t21 rfl ?_
    refine x_dstore (lv' := [(8, .double (fD h18 x0 3140)), (6, .long (fJ h18 x0 3139)), (5, rv (fR h18 x0 3138)), (0, rv x0), (1, .int x1), (2, .int x2), (3, rv x3), (4, .int x4)]) dX12_checkBlock_156 (by decide) rfl ?_
    refine x_aload_n 3 dX12_checkBlock_158 rfl ?_
    refine x_get (v := .int (fI h18 x0 3141)) fdX12_767 dX12_checkBlock_159 t21 rfl ?_
    refine x_istore (lv' := [(10, .int (fI h18 x0 3141)), (8, .double (fD h18 x0 3140)), (6, .long (fJ h18 x0 3139)), (5, rv (fR h18 x0 3138)), (0, rv x0), (1, .int x1), (2, .int x2), (3, rv x3), (4, .int x4)]) dX12_checkBlock_162 (by decide) rfl ?_
    refine x_aload_n 4 dX12_checkBlock_164 rfl ?_
    refine x_iconst (v := 1) dX12_checkBlock_165 (by decide) ?_
    refine x_aload_n 4 dX12_checkBlock_166 rfl ?_
    refine x_get (v := rv (fR h18 x0 3102)) fdX12_70 dX12_checkBlock_167 t21 rfl ?_
    refine x_iload 8 dX12_checkBlock_170 rfl ?_
    obtain ⟨g22, hq⟩ := hq
    obtain ⟨i23, hq⟩ := hq
    refine x_iald 0 (Or.inl rfl) g22 i23 dX12_checkBlock_172 ?_
    refine x_aload_n 4 dX12_checkBlock_173 rfl ?_
    obtain ⟨g24, g25, hq⟩ := hq
    refine x_callV (Yc := YX12_here) (as := []) (st := [.int (aI h18 (fR h18 x0 3102) (Int32.toNatClampNeg x4)), .int 1, rv x0]) q4105 mvX12_here t21 rfl dX12_checkBlock_174 (xle (xal1 (rv_cat _) xal0) (by decide)) (xfr g24) (xlo (xsw1 rfl (xsw1 rfl (xsw1 (rv_cat _) xsw0))) (by decide) g25) (xKr hq (fun x27 h26 hq e28 => ?_) (fun _ _ q _ => q))
    replace hq := hq e28
    have t29 : tg h26 x0 = 13 := e28.tg t21 (by decide)
    obtain ⟨g30, g31, hq⟩ := hq
    refine x_callV (Yc := YX12_define) (as := [.int 1, .int (aI h18 (fR h18 x0 3102) (Int32.toNatClampNeg x4)), rv x27]) (st := []) q4110 mvX12_define t29 rfl dX12_checkBlock_177 (xle (xal1 (rv_cat _) (xal1 rfl (xal1 rfl (xal1 (rv_cat _) xal0)))) (by decide)) (xfr g30) (xlo xsw0 (by decide) g31) (xKr hq (fun x33 h32 hq e34 => ?_) (fun _ _ q _ => q))
    replace hq := hq e34
    refine x_astore (lv' := [(11, rv x33), (10, .int (fI h18 x0 3141)), (8, .double (fD h18 x0 3140)), (6, .long (fJ h18 x0 3139)), (5, rv (fR h18 x0 3138)), (0, rv x0), (1, .int x1), (2, .int x2), (3, rv x3), (4, .int x4)]) dX12_checkBlock_180 (by decide) rfl ?_
    refine x_aload 0 dX12_checkBlock_182 rfl ?_
    refine x_aload 4 dX12_checkBlock_184 rfl ?_
    obtain ⟨g35, hq⟩ := hq
    obtain ⟨h36, e37⟩ : ∃ y, y = sR h32 x33 5890 (fR h18 x0 3138) := ⟨_, rfl⟩
    replace hq := hq h36 e37
    refine x_putR fdX12_612 xty_O dX12_checkBlock_186 g35 (Or.inl (by rw [g35]; rfl)) rfl e37 ?_
    refine x_aload 0 dX12_checkBlock_189 rfl ?_
    refine x_lload 3 dX12_checkBlock_191 rfl ?_
    have t38 : tg h36 x33 = 24 := by rw [e37]; exact g35
    obtain ⟨h39, e40⟩ : ∃ y, y = sJ h36 x33 5891 (fJ h18 x0 3139) := ⟨_, rfl⟩
    replace hq := hq h39 e40
    refine x_putJ fdX12_624 dX12_checkBlock_193 t38 (Or.inl (by rw [t38]; rfl)) rfl e40 ?_
    refine x_aload 0 dX12_checkBlock_196 rfl ?_
    refine x_dload 2 dX12_checkBlock_198 rfl ?_
    have t41 : tg h39 x33 = 24 := by rw [e40]; exact t38
    obtain ⟨h42, e43⟩ : ∃ y, y = sD h39 x33 5892 (fD h18 x0 3140) := ⟨_, rfl⟩
    replace hq := hq h42 e43
    refine x_putD fdX12_770 dX12_checkBlock_200 t41 (Or.inl (by rw [t41]; rfl)) rfl e43 ?_
    refine x_aload 0 dX12_checkBlock_203 rfl ?_
    refine x_iload 1 dX12_checkBlock_205 rfl ?_
    have t44 : tg h42 x33 = 24 := by rw [e43]; exact t41
    obtain ⟨h45, e46⟩ : ∃ y, y = sI h42 x33 5904 (fI h18 x0 3141) := ⟨_, rfl⟩
    replace hq := hq h45 e46
    refine x_putI fdX12_772 xty_I1 dX12_checkBlock_207 t44 (Or.inl (by rw [t44]; rfl)) xnI rfl e46 ?_
    refine x_aload_n 5 dX12_checkBlock_210 rfl ?_
    have t47 : tg h32 x0 = 13 := e34.tg t29 (by decide)
    have t48 : tg h36 x0 = 13 := by rw [e37]; exact t47
    have t49 : tg h39 x0 = 13 := by rw [e40]; exact t48
    have t50 : tg h42 x0 = 13 := by rw [e43]; exact t49
    have t51 : tg h45 x0 = 13 := by rw [e46]; exact t50
    refine x_get (v := rv (fR h45 x0 3105)) fdX12_79 dX12_checkBlock_211 t51 rfl ?_
    refine x_iload 9 dX12_checkBlock_214 rfl ?_
    obtain ⟨g52, hq⟩ := hq
    obtain ⟨i53, hq⟩ := hq
    refine x_iald 0 (Or.inl rfl) g52 i53 dX12_checkBlock_216 ?_
    refine x_istore (lv' := [(4, .int (aI h45 (fR h45 x0 3105) (Int32.toNatClampNeg x4))), (11, rv x33), (10, .int (fI h18 x0 3141)), (8, .double (fD h18 x0 3140)), (6, .long (fJ h18 x0 3139)), (5, rv (fR h18 x0 3138)), (0, rv x0), (1, .int x1), (2, .int x2), (3, rv x3)]) dX12_checkBlock_217 (by decide) (by first | rfl | (simp [rv_cat, Value.category]; done) | (simp [rv_cat, Value.category]; decide)) ?_
    refine x_goto (tgt := 123) dX12_checkBlock_219 (by decide) ?_
    refine xP.pick (lv' := [(0, rv x0), (1, .int x1), (2, .int x2), (3, rv x3), (4, .int (aI h45 (fR h45 x0 3105) (Int32.toNatClampNeg x4)))]) [6, 7, 8, 9, 0] rfl ?_
    exact hq
set_option maxRecDepth 100000 in
def bX12_checkBlock_81 (G : xG) (fr lo : Nat) (x0 : Nat) (x1 : Int32) (x2 : Int32) (x3 : Nat) (x4 : Int32) (x5 : Int32) (h : xH) (Q : Outcome → xH → Prop) : Prop := tg h x3 = 25 ∧ nx h + 1 ≤ xGN G ∧ us h + 2 ≤ xGU G ∧ (∀ (a4 : Nat) (h5 : xH), a4 = nx h + 1 → h5 = nO h 26 2 → xfresh h a4 → 1 ≤ fr ∧ 15 ≤ lo ∧ xRv G YX25_init (fr - 1) (lo - 15) [rv a4, .int x5] h5 (fun h12 => xext h5 h12 → tg h12 (fR h x3 6144) = 29 ∧ 1 ≤ fr ∧ 13 ≤ lo ∧ xRi G YJ2_add (fr - 1) (lo - 13) [rv (fR h x3 6144), rv a4] h12 (fun x19 h18 => xext h12 h18 → tg h18 x0 = 13 ∧ tg h18 (fR h18 x0 3105) = 100 ∧ vp_in x4 (ln h18 (fR h18 x0 3105)) ∧ lX12_checkBlock_18 G fr lo x0 x1 x2 x3 (aI h18 (fR h18 x0 3105) (Int32.toNatClampNeg x4)) h18 Q) (fun r h2 => Q (.threw r) h2)) (fun r h2 => Q (.threw r) h2))
set_option maxRecDepth 100000 in
theorem uX12_checkBlock_81 {G : xG} {fr lo : Nat} {x0 : Nat} {x1 : Int32} {x2 : Int32} {x3 : Nat} {x4 : Int32} {x5 : Int32} {h : xH} {Q : Outcome → xH → Prop} (hq : bX12_checkBlock_81 G fr lo x0 x1 x2 x3 x4 x5 h Q) : xP G YX12_checkBlock fr lo 81 [(0, rv x0), (1, .int x1), (2, .int x2), (3, rv x3), (4, .int x4), (5, .int x5)] [] h Q := by
  unfold bX12_checkBlock_81 at hq
  refine x_aload_n 3 dX12_checkBlock_81 rfl ?_
  obtain ⟨g1, hq⟩ := hq
  refine x_get (v := rv (fR h x3 6144)) fdX12_687 dX12_checkBlock_82 g1 rfl ?_
  obtain ⟨g2, g3, hq⟩ := hq
  obtain ⟨a4, e6⟩ : ∃ y, y = nx h + 1 := ⟨_, rfl⟩
  obtain ⟨h5, e7⟩ : ∃ y, y = nO h 26 2 := ⟨_, rfl⟩
  refine x_new' cdX12_690 dX12_checkBlock_85 g2 g3 e6 e7 (fun f8 => ?_)
  replace hq := hq a4 h5 e6 e7 f8
  have t9 : tg h5 a4 = 26 := by rw [e7, e6]; exact tg_nO
  refine x_dup dX12_checkBlock_88 (rv_cat _) ?_
  refine x_iload 5 dX12_checkBlock_89 rfl ?_
  obtain ⟨g10, g11, hq⟩ := hq
  refine x_callI (Yc := YX25_init) (as := [.int x5]) (st := [rv a4, rv (fR h x3 6144)]) q4140 miX25_init (by rw [t9]; decide) rfl dX12_checkBlock_91 (xle (xal1 (rv_cat _) (xal1 rfl xal0)) (by decide)) (xfr g10) (xlo (xsw1 (rv_cat _) (xsw1 (rv_cat _) xsw0)) (by decide) g11) (xKv hq (fun h12 hq e14 => ?_) (fun _ _ q _ => q))
  replace hq := hq e14
  obtain ⟨g15, hq⟩ := hq
  obtain ⟨g16, g17, hq⟩ := hq
  refine x_callV (Yc := YJ2_add) (as := [rv a4]) (st := []) q4030 mvJ2_add g15 rfl dX12_checkBlock_94 (xle (xal1 (rv_cat _) (xal1 (rv_cat _) xal0)) (by decide)) (xfr g16) (xlo xsw0 (by decide) g17) (xKi hq (fun x19 h18 hq e20 => ?_) (fun _ _ q _ => q))
  replace hq := hq e20
  refine x_pop dX12_checkBlock_97 rfl ?_
  refine x_aload_n 0 dX12_checkBlock_98 rfl ?_
  obtain ⟨g21, hq⟩ := hq
  refine x_get (v := rv (fR h18 x0 3105)) fdX12_79 dX12_checkBlock_99 g21 rfl ?_
  refine x_iload 4 dX12_checkBlock_102 rfl ?_
  obtain ⟨g22, hq⟩ := hq
  obtain ⟨i23, hq⟩ := hq
  refine x_iald 0 (Or.inl rfl) g22 i23 dX12_checkBlock_104 ?_
  refine x_istore (lv' := [(4, .int (aI h18 (fR h18 x0 3105) (Int32.toNatClampNeg x4))), (0, rv x0), (1, .int x1), (2, .int x2), (3, rv x3), (5, .int x5)]) dX12_checkBlock_105 (by decide) (by first | rfl | (simp [rv_cat, Value.category]; done) | (simp [rv_cat, Value.category]; decide)) ?_
  refine x_goto (tgt := 18) dX12_checkBlock_107 (by decide) ?_
  refine xP.pick (lv' := [(0, rv x0), (1, .int x1), (2, .int x2), (3, rv x3), (4, .int (aI h18 (fR h18 x0 3105) (Int32.toNatClampNeg x4)))]) [1, 2, 3, 4, 0] rfl ?_
  exact hq
set_option maxRecDepth 100000 in
def bX12_checkBlock_59 (G : xG) (fr lo : Nat) (x0 : Nat) (x1 : Int32) (x2 : Int32) (x3 : Nat) (x4 : Int32) (x5 : Int32) (h : xH) (Q : Outcome → xH → Prop) : Prop := tg h x0 = 13 ∧ 1 ≤ fr ∧ 15 ≤ lo ∧ xRr G YX12_labelIn (fr - 1) (lo - 15) [rv x0, rv x3, .int x5] h (fun x5 h4 => xext h h4 → ((x5 = 0 → bX12_checkBlock_81 G fr lo x0 x1 x2 x3 x4 x5 h4 Q) ∧ (¬ x5 = 0 → tg h4 (fR h4 x0 3102) = 100 ∧ vp_in x4 (ln h4 (fR h4 x0 3102)) ∧ 1 ≤ fr ∧ 14 ≤ lo ∧ xRv G YX12_refuse (fr - 1) (lo - 14) [rv x0, .int 5, .int (aI h4 (fR h4 x0 3102) (Int32.toNatClampNeg x4))] h4 (fun h13 => xext h4 h13 → bX12_checkBlock_81 G fr lo x0 x1 x2 x3 x4 x5 h13 Q) (fun r h2 => Q (.threw r) h2)))) (fun r h2 => Q (.threw r) h2)
set_option maxRecDepth 100000 in
theorem uX12_checkBlock_59 {G : xG} {fr lo : Nat} {x0 : Nat} {x1 : Int32} {x2 : Int32} {x3 : Nat} {x4 : Int32} {x5 : Int32} {h : xH} {Q : Outcome → xH → Prop} (hq : bX12_checkBlock_59 G fr lo x0 x1 x2 x3 x4 x5 h Q) : xP G YX12_checkBlock fr lo 59 [(0, rv x0), (1, .int x1), (2, .int x2), (3, rv x3), (4, .int x4), (5, .int x5)] [] h Q := by
  unfold bX12_checkBlock_59 at hq
  refine x_aload_n 0 dX12_checkBlock_59 rfl ?_
  refine x_aload_n 3 dX12_checkBlock_60 rfl ?_
  refine x_iload 5 dX12_checkBlock_61 rfl ?_
  obtain ⟨g1, hq⟩ := hq
  obtain ⟨g2, g3, hq⟩ := hq
  refine x_callV (Yc := YX12_labelIn) (as := [rv x3, .int x5]) (st := []) q4134 mvX12_labelIn g1 rfl dX12_checkBlock_63 (xle (xal1 (rv_cat _) (xal1 (rv_cat _) (xal1 rfl xal0))) (by decide)) (xfr g2) (xlo xsw0 (by decide) g3) (xKr hq (fun x5 h4 hq e6 => ?_) (fun _ _ q _ => q))
  replace hq := hq e6
  refine x_ifnull (tgt := 81) dX12_checkBlock_66 (by decide) (fun c7 => ?_) (fun c7 => ?_)
  · replace hq := hq.1 c7
    exact uX12_checkBlock_81 hq
  · replace hq := hq.2 c7
    refine x_aload_n 0 dX12_checkBlock_69 rfl ?_
    refine x_iconst (v := 5) dX12_checkBlock_70 (by decide) ?_
    refine x_aload_n 0 dX12_checkBlock_71 rfl ?_
    have t8 : tg h4 x0 = 13 := e6.tg g1 (by decide)
    refine x_get (v := rv (fR h4 x0 3102)) fdX12_70 dX12_checkBlock_72 t8 rfl ?_
    refine x_iload 4 dX12_checkBlock_75 rfl ?_
    obtain ⟨g9, hq⟩ := hq
    obtain ⟨i10, hq⟩ := hq
    refine x_iald 0 (Or.inl rfl) g9 i10 dX12_checkBlock_77 ?_
    obtain ⟨g11, g12, hq⟩ := hq
    refine x_callV (Yc := YX12_refuse) (as := [.int 5, .int (aI h4 (fR h4 x0 3102) (Int32.toNatClampNeg x4))]) (st := []) q4095 mvX12_refuse t8 rfl dX12_checkBlock_78 (xle (xal1 (rv_cat _) (xal1 rfl (xal1 rfl xal0))) (by decide)) (xfr g11) (xlo xsw0 (by decide) g12) (xKv hq (fun h13 hq e15 => ?_) (fun _ _ q _ => q))
    replace hq := hq e15
    exact uX12_checkBlock_81 hq
set_option maxRecDepth 100000 in
def bX12_checkBlock_18 (G : xG) (fr lo : Nat) (x0 : Nat) (x1 : Int32) (x2 : Int32) (x3 : Nat) (x4 : Int32) (h : xH) (Q : Outcome → xH → Prop) : Prop := ((x4 = (-1) → tg h x0 = 13 ∧ 1 ≤ fr ∧ 17 ≤ lo ∧ xRi G YX12_child (fr - 1) (lo - 17) [rv x0, .int x1, .int 1] h (fun x6 h5 => xext h h5 → tg h5 (fR h x0 3103) = 100 ∧ vp_in x6 (ln h5 (fR h x0 3103)) ∧ lX12_checkBlock_123 G fr lo x0 x1 x2 x3 (aI h5 (fR h x0 3103) (Int32.toNatClampNeg x6)) h5 Q) (fun r h2 => Q (.threw r) h2)) ∧ (¬ x4 = (-1) → tg h x0 = 13 ∧ tg h (fR h x0 3102) = 100 ∧ vp_in x4 (ln h (fR h x0 3102)) ∧ tg h (fR h x0 3084) = 100 ∧ vp_in (aI h (fR h x0 3102) (Int32.toNatClampNeg x4)) (ln h (fR h x0 3084)) ∧ (((aI h (fR h x0 3084) (Int32.toNatClampNeg (aI h (fR h x0 3102) (Int32.toNatClampNeg x4)))) ≤ 9999 → bX12_checkBlock_59 G fr lo x0 x1 x2 x3 x4 (aI h (fR h x0 3084) (Int32.toNatClampNeg (aI h (fR h x0 3102) (Int32.toNatClampNeg x4)))) h Q) ∧ (¬ (aI h (fR h x0 3084) (Int32.toNatClampNeg (aI h (fR h x0 3102) (Int32.toNatClampNeg x4)))) ≤ 9999 → vp_in x4 (ln h (fR h x0 3102)) ∧ 1 ≤ fr ∧ 14 ≤ lo ∧ xRv G YX12_refuse (fr - 1) (lo - 14) [rv x0, .int 12, .int (aI h (fR h x0 3102) (Int32.toNatClampNeg x4))] h (fun h19 => xext h h19 → bX12_checkBlock_59 G fr lo x0 x1 x2 x3 x4 (aI h (fR h x0 3084) (Int32.toNatClampNeg (aI h (fR h x0 3102) (Int32.toNatClampNeg x4)))) h19 Q) (fun r h2 => Q (.threw r) h2)))))
set_option maxRecDepth 100000 in
theorem uX12_checkBlock_18 {G : xG} {fr lo : Nat} {x0 : Nat} {x1 : Int32} {x2 : Int32} {x3 : Nat} {x4 : Int32} {h : xH} {Q : Outcome → xH → Prop} (hq : bX12_checkBlock_18 G fr lo x0 x1 x2 x3 x4 h Q) : xP G YX12_checkBlock fr lo 18 [(0, rv x0), (1, .int x1), (2, .int x2), (3, rv x3), (4, .int x4)] [] h Q := by
  unfold bX12_checkBlock_18 at hq
  refine x_iload 4 dX12_checkBlock_18 rfl ?_
  refine x_iconst (v := (-1)) dX12_checkBlock_20 (by decide) ?_
  refine x_icmp_eq (tgt := 110) dX12_checkBlock_21 (by decide) (fun c1 => ?_) (fun c1 => ?_)
  · replace hq := hq.1 c1
    refine x_aload_n 0 dX12_checkBlock_110 rfl ?_
    obtain ⟨g2, hq⟩ := hq
    refine x_get (v := rv (fR h x0 3103)) fdX12_73 dX12_checkBlock_111 g2 rfl ?_
    refine x_aload_n 0 dX12_checkBlock_114 rfl ?_
    refine x_iload_n 1 dX12_checkBlock_115 rfl ?_
    refine x_iconst (v := 1) dX12_checkBlock_116 (by decide) ?_
    obtain ⟨g3, g4, hq⟩ := hq
    refine x_callV (Yc := YX12_child) (as := [.int x1, .int 1]) (st := [rv (fR h x0 3103)]) q4126 mvX12_child g2 rfl dX12_checkBlock_117 (xle (xal1 (rv_cat _) (xal1 rfl (xal1 rfl xal0))) (by decide)) (xfr g3) (xlo (xsw1 (rv_cat _) xsw0) (by decide) g4) (xKi hq (fun x6 h5 hq e7 => ?_) (fun _ _ q _ => q))
    replace hq := hq e7
    obtain ⟨g8, hq⟩ := hq
    obtain ⟨i9, hq⟩ := hq
    refine x_iald 0 (Or.inl rfl) g8 i9 dX12_checkBlock_120 ?_
    refine x_istore (lv' := [(4, .int (aI h5 (fR h x0 3103) (Int32.toNatClampNeg x6))), (0, rv x0), (1, .int x1), (2, .int x2), (3, rv x3)]) dX12_checkBlock_121 (by decide) (by first | rfl | (simp [rv_cat, Value.category]; done) | (simp [rv_cat, Value.category]; decide)) ?_
    refine xP.pick (lv' := [(0, rv x0), (1, .int x1), (2, .int x2), (3, rv x3), (4, .int (aI h5 (fR h x0 3103) (Int32.toNatClampNeg x6)))]) [1, 2, 3, 4, 0] rfl ?_
    exact hq
  · replace hq := hq.2 c1
    refine x_aload_n 0 dX12_checkBlock_24 rfl ?_
    obtain ⟨g10, hq⟩ := hq
    refine x_get (v := rv (fR h x0 3084)) fdX12_32 dX12_checkBlock_25 g10 rfl ?_
    refine x_aload_n 0 dX12_checkBlock_28 rfl ?_
    refine x_get (v := rv (fR h x0 3102)) fdX12_70 dX12_checkBlock_29 g10 rfl ?_
    refine x_iload 4 dX12_checkBlock_32 rfl ?_
    obtain ⟨g11, hq⟩ := hq
    obtain ⟨i12, hq⟩ := hq
    refine x_iald 0 (Or.inl rfl) g11 i12 dX12_checkBlock_34 ?_
    obtain ⟨g13, hq⟩ := hq
    obtain ⟨i14, hq⟩ := hq
    refine x_iald 0 (Or.inl rfl) g13 i14 dX12_checkBlock_35 ?_
    refine x_istore (lv' := [(5, .int (aI h (fR h x0 3084) (Int32.toNatClampNeg (aI h (fR h x0 3102) (Int32.toNatClampNeg x4))))), (0, rv x0), (1, .int x1), (2, .int x2), (3, rv x3), (4, .int x4)]) dX12_checkBlock_36 (by decide) rfl ?_
    refine x_iload 0 dX12_checkBlock_38 rfl ?_
    refine x_sipush (v := 9999) dX12_checkBlock_40 (by decide) ?_
    refine x_icmp_le (tgt := 59) dX12_checkBlock_43 (by decide) (fun c15 => ?_) (fun c15 => ?_)
    · replace hq := hq.1 c15
      refine xP.pick (lv' := [(0, rv x0), (1, .int x1), (2, .int x2), (3, rv x3), (4, .int x4), (5, .int (aI h (fR h x0 3084) (Int32.toNatClampNeg (aI h (fR h x0 3102) (Int32.toNatClampNeg x4)))))]) [1, 2, 3, 4, 5, 0] rfl ?_
      exact uX12_checkBlock_59 hq
    · replace hq := hq.2 c15
      refine x_aload_n 1 dX12_checkBlock_46 rfl ?_
      refine x_bipush (v := 12) dX12_checkBlock_47 (by decide) ?_
      refine x_aload_n 1 dX12_checkBlock_49 rfl ?_
      refine x_get (v := rv (fR h x0 3102)) fdX12_70 dX12_checkBlock_50 g10 rfl ?_
      refine x_iload 5 dX12_checkBlock_53 rfl ?_
      obtain ⟨i16, hq⟩ := hq
      refine x_iald 0 (Or.inl rfl) g11 i16 dX12_checkBlock_55 ?_
      obtain ⟨g17, g18, hq⟩ := hq
      refine x_callV (Yc := YX12_refuse) (as := [.int 12, .int (aI h (fR h x0 3102) (Int32.toNatClampNeg x4))]) (st := []) q4095 mvX12_refuse g10 rfl dX12_checkBlock_56 (xle (xal1 (rv_cat _) (xal1 rfl (xal1 rfl xal0))) (by decide)) (xfr g17) (xlo xsw0 (by decide) g18) (xKv hq (fun h19 hq e21 => ?_) (fun _ _ q _ => q))
      replace hq := hq e21
      refine xP.pick (lv' := [(0, rv x0), (1, .int x1), (2, .int x2), (3, rv x3), (4, .int x4), (5, .int (aI h (fR h x0 3084) (Int32.toNatClampNeg (aI h (fR h x0 3102) (Int32.toNatClampNeg x4)))))]) [1, 2, 3, 4, 5, 0] rfl ?_
      exact uX12_checkBlock_59 hq
set_option maxRecDepth 100000 in
def bX12_checkBlock (G : xG) (fr lo : Nat) (x0 : Nat) (x1 : Int32) (x2 : Int32) (h : xH) (Q : Outcome → xH → Prop) : Prop := tg h x0 = 13 ∧ 1 ≤ fr ∧ 12 ≤ lo ∧ xRr G YX12_scope (fr - 1) (lo - 12) [rv x0] h (fun x5 h4 => xext h h4 → tg h4 (fR h4 x0 3103) = 100 ∧ vp_in x1 (ln h4 (fR h4 x0 3103)) ∧ vp_in (aI h4 (fR h4 x0 3103) (Int32.toNatClampNeg x1)) (ln h4 (fR h4 x0 3103)) ∧ lX12_checkBlock_18 G fr lo x0 x1 x2 x5 (aI h4 (fR h4 x0 3103) (Int32.toNatClampNeg (aI h4 (fR h4 x0 3103) (Int32.toNatClampNeg x1)))) h4 Q) (fun r h2 => Q (.threw r) h2)
set_option maxRecDepth 100000 in
theorem uX12_checkBlock {G : xG} {fr lo : Nat} {x0 : Nat} {x1 : Int32} {x2 : Int32} {h : xH} {Q : Outcome → xH → Prop} (hq : bX12_checkBlock G fr lo x0 x1 x2 h Q) : xP G YX12_checkBlock fr lo 0 [(0, rv x0), (1, .int x1), (2, .int x2)] [] h Q := by
  unfold bX12_checkBlock at hq
  refine x_aload_n 0 dX12_checkBlock_0 rfl ?_
  obtain ⟨g1, hq⟩ := hq
  obtain ⟨g2, g3, hq⟩ := hq
  refine x_callV (Yc := YX12_scope) (as := []) (st := []) q4122 mvX12_scope g1 rfl dX12_checkBlock_1 (xle (xal1 (rv_cat _) xal0) (by decide)) (xfr g2) (xlo xsw0 (by decide) g3) (xKr hq (fun x5 h4 hq e6 => ?_) (fun _ _ q _ => q))
  replace hq := hq e6
  refine x_astore_n (lv' := [(3, rv x5), (0, rv x0), (1, .int x1), (2, .int x2)]) dX12_checkBlock_4 (by decide) rfl ?_
  refine x_aload_n 1 dX12_checkBlock_5 rfl ?_
  have t7 : tg h4 x0 = 13 := e6.tg g1 (by decide)
  refine x_get (v := rv (fR h4 x0 3103)) fdX12_73 dX12_checkBlock_6 t7 rfl ?_
  refine x_aload_n 1 dX12_checkBlock_9 rfl ?_
  refine x_get (v := rv (fR h4 x0 3103)) fdX12_73 dX12_checkBlock_10 t7 rfl ?_
  refine x_iload_n 2 dX12_checkBlock_13 rfl ?_
  obtain ⟨g8, hq⟩ := hq
  obtain ⟨i9, hq⟩ := hq
  refine x_iald 0 (Or.inl rfl) g8 i9 dX12_checkBlock_14 ?_
  obtain ⟨i10, hq⟩ := hq
  refine x_iald 0 (Or.inl rfl) g8 i10 dX12_checkBlock_15 ?_
  refine x_istore (lv' := [(4, .int (aI h4 (fR h4 x0 3103) (Int32.toNatClampNeg (aI h4 (fR h4 x0 3103) (Int32.toNatClampNeg x1))))), (3, rv x5), (0, rv x0), (1, .int x1), (2, .int x2)]) dX12_checkBlock_16 (by decide) (by first | rfl | (simp [rv_cat, Value.category]; done) | (simp [rv_cat, Value.category]; decide)) ?_
  refine xP.pick (lv' := [(0, rv x0), (1, .int x1), (2, .int x2), (3, rv x5), (4, .int (aI h4 (fR h4 x0 3103) (Int32.toNatClampNeg (aI h4 (fR h4 x0 3103) (Int32.toNatClampNeg x1)))))]) [2, 3, 4, 1, 0] rfl ?_
  exact hq
theorem rX12_checkBlock {G : xG} {fr lo : Nat} {x0 : Nat} {x1 : Int32} {x2 : Int32} {h : xH} {Q : Outcome → xH → Prop} (hq : bX12_checkBlock G fr lo x0 x1 x2 h Q) : xR G YX12_checkBlock fr lo [rv x0, .int x1, .int x2] h Q := by
  show xP _ _ _ _ _ (lv_args 0 _) _ _ _
  rw [show lv_args 0 [rv x0, .int x1, .int x2] = [(0, rv x0), (1, .int x1), (2, .int x2)] from (xla1 (rv_cat _) (xla1 rfl (xla1 rfl xla0)))]
  exact uX12_checkBlock hq
set_option maxRecDepth 100000 in
theorem dX12_labelIn_0 : decode cX12_labelIn 0 = .ok (.iconst 0, 1) := by decide +kernel
set_option maxRecDepth 100000 in
theorem dX12_labelIn_1 : decode cX12_labelIn 1 = .ok (.istore_n 3, 1) := by decide +kernel
set_option maxRecDepth 100000 in
theorem dX12_labelIn_2 : decode cX12_labelIn 2 = .ok (.iload_n 3, 1) := by decide +kernel
set_option maxRecDepth 100000 in
theorem dX12_labelIn_3 : decode cX12_labelIn 3 = .ok (.aload_n 1, 1) := by decide +kernel
set_option maxRecDepth 100000 in
theorem dX12_labelIn_4 : decode cX12_labelIn 4 = .ok (.getfield 687, 3) := by decide +kernel
set_option maxRecDepth 100000 in
theorem dX12_labelIn_7 : decode cX12_labelIn 7 = .ok (.invokevirtual 554, 3) := by decide +kernel
set_option maxRecDepth 100000 in
theorem dX12_labelIn_10 : decode cX12_labelIn 10 = .ok (.if_icmp .ge 39, 3) := by decide +kernel
set_option maxRecDepth 100000 in
theorem dX12_labelIn_13 : decode cX12_labelIn 13 = .ok (.aload_n 1, 1) := by decide +kernel
set_option maxRecDepth 100000 in
theorem dX12_labelIn_14 : decode cX12_labelIn 14 = .ok (.getfield 687, 3) := by decide +kernel
set_option maxRecDepth 100000 in
theorem dX12_labelIn_17 : decode cX12_labelIn 17 = .ok (.iload_n 3, 1) := by decide +kernel
set_option maxRecDepth 100000 in
theorem dX12_labelIn_18 : decode cX12_labelIn 18 = .ok (.invokevirtual 556, 3) := by decide +kernel
set_option maxRecDepth 100000 in
theorem dX12_labelIn_21 : decode cX12_labelIn 21 = .ok (.checkcast 690, 3) := by decide +kernel
set_option maxRecDepth 100000 in
theorem dX12_labelIn_24 : decode cX12_labelIn 24 = .ok (.getfield 692, 3) := by decide +kernel
set_option maxRecDepth 100000 in
theorem dX12_labelIn_27 : decode cX12_labelIn 27 = .ok (.iload_n 2, 1) := by decide +kernel
set_option maxRecDepth 100000 in
theorem dX12_labelIn_28 : decode cX12_labelIn 28 = .ok (.if_icmp .ne 15, 3) := by decide +kernel
set_option maxRecDepth 100000 in
theorem dX12_labelIn_31 : decode cX12_labelIn 31 = .ok (.aload_n 1, 1) := by decide +kernel
set_option maxRecDepth 100000 in
theorem dX12_labelIn_32 : decode cX12_labelIn 32 = .ok (.getfield 687, 3) := by decide +kernel
set_option maxRecDepth 100000 in
theorem dX12_labelIn_35 : decode cX12_labelIn 35 = .ok (.iload_n 3, 1) := by decide +kernel
set_option maxRecDepth 100000 in
theorem dX12_labelIn_36 : decode cX12_labelIn 36 = .ok (.invokevirtual 556, 3) := by decide +kernel
set_option maxRecDepth 100000 in
theorem dX12_labelIn_39 : decode cX12_labelIn 39 = .ok (.checkcast 690, 3) := by decide +kernel
set_option maxRecDepth 100000 in
theorem dX12_labelIn_42 : decode cX12_labelIn 42 = .ok (.areturn, 1) := by decide +kernel
set_option maxRecDepth 100000 in
theorem dX12_labelIn_43 : decode cX12_labelIn 43 = .ok (.iinc 3 1, 3) := by decide +kernel
set_option maxRecDepth 100000 in
theorem dX12_labelIn_46 : decode cX12_labelIn 46 = .ok (.goto (-44), 3) := by decide +kernel
set_option maxRecDepth 100000 in
theorem dX12_labelIn_49 : decode cX12_labelIn 49 = .ok (.aconst_null, 1) := by decide +kernel
set_option maxRecDepth 100000 in
theorem dX12_labelIn_50 : decode cX12_labelIn 50 = .ok (.areturn, 1) := by decide +kernel
def lX12_labelIn_2 (G : xG) (fr lo : Nat) (x1 : Nat) (x2 : Int32) (x3 : Int32) (h : xH) (Q : Outcome → xH → Prop) : Prop := xP G YX12_labelIn fr lo 2 [(1, rv x1), (2, .int x2), (3, .int x3)] [] h Q
set_option maxRecDepth 100000 in
def bX12_labelIn_2 (G : xG) (fr lo : Nat) (x1 : Nat) (x2 : Int32) (x3 : Int32) (h : xH) (Q : Outcome → xH → Prop) : Prop := tg h x1 = 25 ∧ tg h (fR h x1 6144) = 29 ∧ 1 ≤ fr ∧ 13 ≤ lo ∧ xRi G YJ2_size (fr - 1) (lo - 13) [rv (fR h x1 6144)] h (fun x6 h5 => xext h h5 → ((x6 ≤ x3 → Q (.returned (some (rv 0))) h5) ∧ (¬ x6 ≤ x3 → tg h5 (fR h5 x1 6144) = 29 ∧ 1 ≤ fr ∧ 13 ≤ lo ∧ xRr G YJ2_get (fr - 1) (lo - 13) [rv (fR h5 x1 6144), .int x3] h5 (fun x14 h13 => xext h5 h13 → tg h13 x14 = 26 ∧ ((¬ (fI h13 x14 6400) = x2 → lX12_labelIn_2 G fr lo x1 x2 (x3 + 1) h13 Q) ∧ ((fI h13 x14 6400) = x2 → tg h13 (fR h13 x1 6144) = 29 ∧ 1 ≤ fr ∧ 13 ≤ lo ∧ xRr G YJ2_get (fr - 1) (lo - 13) [rv (fR h13 x1 6144), .int x3] h13 (fun x23 h22 => xext h13 h22 → tg h22 x23 = 26 ∧ Q (.returned (some (rv x23))) h22) (fun r h2 => Q (.threw r) h2)))) (fun r h2 => Q (.threw r) h2)))) (fun r h2 => Q (.threw r) h2)
set_option maxRecDepth 100000 in
theorem uX12_labelIn_2 {G : xG} {fr lo : Nat} {x1 : Nat} {x2 : Int32} {x3 : Int32} {h : xH} {Q : Outcome → xH → Prop} (hq : bX12_labelIn_2 G fr lo x1 x2 x3 h Q) : xP G YX12_labelIn fr lo 2 [(1, rv x1), (2, .int x2), (3, .int x3)] [] h Q := by
  unfold bX12_labelIn_2 at hq
  refine x_iload_n 2 dX12_labelIn_2 rfl ?_
  refine x_aload_n 0 dX12_labelIn_3 rfl ?_
  obtain ⟨g1, hq⟩ := hq
  refine x_get (v := rv (fR h x1 6144)) fdX12_687 dX12_labelIn_4 g1 rfl ?_
  obtain ⟨g2, hq⟩ := hq
  obtain ⟨g3, g4, hq⟩ := hq
  refine x_callV (Yc := YJ2_size) (as := []) (st := [.int x3]) q4067 mvJ2_size g2 rfl dX12_labelIn_7 (xle (xal1 (rv_cat _) xal0) (by decide)) (xfr g3) (xlo (xsw1 rfl xsw0) (by decide) g4) (xKi hq (fun x6 h5 hq e7 => ?_) (fun _ _ q _ => q))
  replace hq := hq e7
  refine x_icmp_ge (tgt := 49) dX12_labelIn_10 (by decide) (fun c8 => ?_) (fun c8 => ?_)
  · replace hq := hq.1 c8
    refine x_null dX12_labelIn_49 ?_
    exact x_aret rfl xty_O dX12_labelIn_50 hq
  · replace hq := hq.2 c8
    refine x_aload_n 0 dX12_labelIn_13 rfl ?_
    have t9 : tg h5 x1 = 25 := e7.tg g1 (by decide)
    refine x_get (v := rv (fR h5 x1 6144)) fdX12_687 dX12_labelIn_14 t9 rfl ?_
    refine x_iload_n 2 dX12_labelIn_17 rfl ?_
    obtain ⟨g10, hq⟩ := hq
    obtain ⟨g11, g12, hq⟩ := hq
    refine x_callV (Yc := YJ2_get) (as := [.int x3]) (st := []) q4109 mvJ2_get g10 rfl dX12_labelIn_18 (xle (xal1 (rv_cat _) (xal1 rfl xal0)) (by decide)) (xfr g11) (xlo xsw0 (by decide) g12) (xKr hq (fun x14 h13 hq e15 => ?_) (fun _ _ q _ => q))
    replace hq := hq e15
    obtain ⟨g16, hq⟩ := hq
    refine x_cast (ci := 25) (by decide) rfl q4138 g16 dX12_labelIn_21 ?_
    refine x_get (v := .int (fI h13 x14 6400)) fdX12_692 dX12_labelIn_24 g16 rfl ?_
    refine x_iload_n 1 dX12_labelIn_27 rfl ?_
    refine x_icmp_ne (tgt := 43) dX12_labelIn_28 (by decide) (fun c17 => ?_) (fun c17 => ?_)
    · replace hq := hq.1 c17
      refine x_iinc (lv' := [(3, .int (x3 + 1)), (1, rv x1), (2, .int x2)]) 2 dX12_labelIn_43 rfl (by decide) rfl ?_
      refine x_goto (tgt := 2) dX12_labelIn_46 (by decide) ?_
      refine xP.pick (lv' := [(1, rv x1), (2, .int x2), (3, .int (x3 + 1))]) [1, 2, 0] rfl ?_
      exact hq
    · replace hq := hq.2 c17
      refine x_aload_n 0 dX12_labelIn_31 rfl ?_
      have t18 : tg h13 x1 = 25 := e15.tg t9 (by decide)
      refine x_get (v := rv (fR h13 x1 6144)) fdX12_687 dX12_labelIn_32 t18 rfl ?_
      refine x_iload_n 2 dX12_labelIn_35 rfl ?_
      obtain ⟨g19, hq⟩ := hq
      obtain ⟨g20, g21, hq⟩ := hq
      refine x_callV (Yc := YJ2_get) (as := [.int x3]) (st := []) q4109 mvJ2_get g19 rfl dX12_labelIn_36 (xle (xal1 (rv_cat _) (xal1 rfl xal0)) (by decide)) (xfr g20) (xlo xsw0 (by decide) g21) (xKr hq (fun x23 h22 hq e24 => ?_) (fun _ _ q _ => q))
      replace hq := hq e24
      obtain ⟨g25, hq⟩ := hq
      refine x_cast (ci := 25) (by decide) rfl q4138 g25 dX12_labelIn_39 ?_
      exact x_aret rfl xty_O dX12_labelIn_42 hq
set_option maxRecDepth 100000 in
def bX12_labelIn (G : xG) (fr lo : Nat) (x0 : Nat) (x1 : Nat) (x2 : Int32) (h : xH) (Q : Outcome → xH → Prop) : Prop := lX12_labelIn_2 G fr lo x1 x2 0 h Q
set_option maxRecDepth 100000 in
theorem uX12_labelIn {G : xG} {fr lo : Nat} {x0 : Nat} {x1 : Nat} {x2 : Int32} {h : xH} {Q : Outcome → xH → Prop} (hq : bX12_labelIn G fr lo x0 x1 x2 h Q) : xP G YX12_labelIn fr lo 0 [(0, rv x0), (1, rv x1), (2, .int x2)] [] h Q := by
  unfold bX12_labelIn at hq
  refine x_iconst (v := 0) dX12_labelIn_0 (by decide) ?_
  refine x_istore_n (lv' := [(3, .int 0), (0, rv x0), (1, rv x1), (2, .int x2)]) dX12_labelIn_1 (by decide) rfl ?_
  refine xP.pick (lv' := [(1, rv x1), (2, .int x2), (3, .int 0)]) [2, 3, 0] rfl ?_
  exact hq
theorem rX12_labelIn {G : xG} {fr lo : Nat} {x0 : Nat} {x1 : Nat} {x2 : Int32} {h : xH} {Q : Outcome → xH → Prop} (hq : bX12_labelIn G fr lo x0 x1 x2 h Q) : xR G YX12_labelIn fr lo [rv x0, rv x1, .int x2] h Q := by
  show xP _ _ _ _ _ (lv_args 0 _) _ _ _
  rw [show lv_args 0 [rv x0, rv x1, .int x2] = [(0, rv x0), (1, rv x1), (2, .int x2)] from (xla1 (rv_cat _) (xla1 (rv_cat _) (xla1 rfl xla0)))]
  exact uX12_labelIn hq
set_option maxRecDepth 100000 in
theorem dX12_constant_0 : decode cX12_constant 0 = .ok (.aload_n 0, 1) := by decide +kernel
set_option maxRecDepth 100000 in
theorem dX12_constant_1 : decode cX12_constant 1 = .ok (.getfield 82, 3) := by decide +kernel
set_option maxRecDepth 100000 in
theorem dX12_constant_4 : decode cX12_constant 4 = .ok (.iload_n 1, 1) := by decide +kernel
set_option maxRecDepth 100000 in
theorem dX12_constant_5 : decode cX12_constant 5 = .ok (.iaload, 1) := by decide +kernel
set_option maxRecDepth 100000 in
theorem dX12_constant_6 : decode cX12_constant 6 = .ok (.istore_n 2, 1) := by decide +kernel
set_option maxRecDepth 100000 in
theorem dX12_constant_7 : decode cX12_constant 7 = .ok (.aload_n 0, 1) := by decide +kernel
set_option maxRecDepth 100000 in
theorem dX12_constant_8 : decode cX12_constant 8 = .ok (.lconst 0, 1) := by decide +kernel
set_option maxRecDepth 100000 in
theorem dX12_constant_9 : decode cX12_constant 9 = .ok (.putfield 760, 3) := by decide +kernel
set_option maxRecDepth 100000 in
theorem dX12_constant_12 : decode cX12_constant 12 = .ok (.aload_n 0, 1) := by decide +kernel
set_option maxRecDepth 100000 in
theorem dX12_constant_13 : decode cX12_constant 13 = .ok (.dconst 0, 1) := by decide +kernel
set_option maxRecDepth 100000 in
theorem dX12_constant_14 : decode cX12_constant 14 = .ok (.putfield 763, 3) := by decide +kernel
set_option maxRecDepth 100000 in
theorem dX12_constant_17 : decode cX12_constant 17 = .ok (.aload_n 0, 1) := by decide +kernel
set_option maxRecDepth 100000 in
theorem dX12_constant_18 : decode cX12_constant 18 = .ok (.iconst (-1), 1) := by decide +kernel
set_option maxRecDepth 100000 in
theorem dX12_constant_19 : decode cX12_constant 19 = .ok (.putfield 767, 3) := by decide +kernel
set_option maxRecDepth 100000 in
theorem dX12_constant_22 : decode cX12_constant 22 = .ok (.aload_n 0, 1) := by decide +kernel
set_option maxRecDepth 100000 in
theorem dX12_constant_23 : decode cX12_constant 23 = .ok (.getfield 26, 3) := by decide +kernel
set_option maxRecDepth 100000 in
theorem dX12_constant_26 : decode cX12_constant 26 = .ok (.iload_n 2, 1) := by decide +kernel
set_option maxRecDepth 100000 in
theorem dX12_constant_27 : decode cX12_constant 27 = .ok (.iaload, 1) := by decide +kernel
set_option maxRecDepth 100000 in
theorem dX12_constant_28 : decode cX12_constant 28 = .ok (.tableswitch 142 41 43 #[99, 121, 28], 28) := by decide +kernel
set_option maxRecDepth 100000 in
theorem dX12_constant_56 : decode cX12_constant 56 = .ok (.aload_n 0, 1) := by decide +kernel
set_option maxRecDepth 100000 in
theorem dX12_constant_57 : decode cX12_constant 57 = .ok (.getfield 35, 3) := by decide +kernel
set_option maxRecDepth 100000 in
theorem dX12_constant_60 : decode cX12_constant 60 = .ok (.iload_n 2, 1) := by decide +kernel
set_option maxRecDepth 100000 in
theorem dX12_constant_61 : decode cX12_constant 61 = .ok (.iaload, 1) := by decide +kernel
set_option maxRecDepth 100000 in
theorem dX12_constant_62 : decode cX12_constant 62 = .ok (.iconst 1, 1) := by decide +kernel
set_option maxRecDepth 100000 in
theorem dX12_constant_63 : decode cX12_constant 63 = .ok (.if_icmp .ne 30, 3) := by decide +kernel
set_option maxRecDepth 100000 in
theorem dX12_constant_66 : decode cX12_constant 66 = .ok (.aload_n 0, 1) := by decide +kernel
set_option maxRecDepth 100000 in
theorem dX12_constant_67 : decode cX12_constant 67 = .ok (.aload_n 0, 1) := by decide +kernel
set_option maxRecDepth 100000 in
theorem dX12_constant_68 : decode cX12_constant 68 = .ok (.getfield 119, 3) := by decide +kernel
set_option maxRecDepth 100000 in
theorem dX12_constant_71 : decode cX12_constant 71 = .ok (.putfield 757, 3) := by decide +kernel
set_option maxRecDepth 100000 in
theorem dX12_constant_74 : decode cX12_constant 74 = .ok (.aload_n 0, 1) := by decide +kernel
set_option maxRecDepth 100000 in
theorem dX12_constant_75 : decode cX12_constant 75 = .ok (.aload_n 0, 1) := by decide +kernel
set_option maxRecDepth 100000 in
theorem dX12_constant_76 : decode cX12_constant 76 = .ok (.getfield 42, 3) := by decide +kernel
set_option maxRecDepth 100000 in
theorem dX12_constant_79 : decode cX12_constant 79 = .ok (.aload_n 0, 1) := by decide +kernel
set_option maxRecDepth 100000 in
theorem dX12_constant_80 : decode cX12_constant 80 = .ok (.getfield 32, 3) := by decide +kernel
set_option maxRecDepth 100000 in
theorem dX12_constant_83 : decode cX12_constant 83 = .ok (.iload_n 2, 1) := by decide +kernel
set_option maxRecDepth 100000 in
theorem dX12_constant_84 : decode cX12_constant 84 = .ok (.iaload, 1) := by decide +kernel
set_option maxRecDepth 100000 in
theorem dX12_constant_85 : decode cX12_constant 85 = .ok (.baload, 1) := by decide +kernel
set_option maxRecDepth 100000 in
theorem dX12_constant_86 : decode cX12_constant 86 = .ok (.i2l, 1) := by decide +kernel
set_option maxRecDepth 100000 in
theorem dX12_constant_87 : decode cX12_constant 87 = .ok (.putfield 760, 3) := by decide +kernel
set_option maxRecDepth 100000 in
theorem dX12_constant_90 : decode cX12_constant 90 = .ok (.goto 119, 3) := by decide +kernel
set_option maxRecDepth 100000 in
theorem dX12_constant_93 : decode cX12_constant 93 = .ok (.aload_n 0, 1) := by decide +kernel
set_option maxRecDepth 100000 in
theorem dX12_constant_94 : decode cX12_constant 94 = .ok (.new 94, 3) := by decide +kernel
set_option maxRecDepth 100000 in
theorem dX12_constant_97 : decode cX12_constant 97 = .ok (.dup, 1) := by decide +kernel
set_option maxRecDepth 100000 in
theorem dX12_constant_98 : decode cX12_constant 98 = .ok (.bipush 13, 2) := by decide +kernel
set_option maxRecDepth 100000 in
theorem dX12_constant_100 : decode cX12_constant 100 = .ok (.invokespecial 106, 3) := by decide +kernel
set_option maxRecDepth 100000 in
theorem dX12_constant_103 : decode cX12_constant 103 = .ok (.putfield 757, 3) := by decide +kernel
set_option maxRecDepth 100000 in
theorem dX12_constant_106 : decode cX12_constant 106 = .ok (.aload_n 0, 1) := by decide +kernel
set_option maxRecDepth 100000 in
theorem dX12_constant_107 : decode cX12_constant 107 = .ok (.getfield 757, 3) := by decide +kernel
set_option maxRecDepth 100000 in
theorem dX12_constant_110 : decode cX12_constant 110 = .ok (.aload_n 0, 1) := by decide +kernel
set_option maxRecDepth 100000 in
theorem dX12_constant_111 : decode cX12_constant 111 = .ok (.getfield 35, 3) := by decide +kernel
set_option maxRecDepth 100000 in
theorem dX12_constant_114 : decode cX12_constant 114 = .ok (.iload_n 2, 1) := by decide +kernel
set_option maxRecDepth 100000 in
theorem dX12_constant_115 : decode cX12_constant 115 = .ok (.iaload, 1) := by decide +kernel
set_option maxRecDepth 100000 in
theorem dX12_constant_116 : decode cX12_constant 116 = .ok (.putfield 595, 3) := by decide +kernel
set_option maxRecDepth 100000 in
theorem dX12_constant_119 : decode cX12_constant 119 = .ok (.aload_n 0, 1) := by decide +kernel
set_option maxRecDepth 100000 in
theorem dX12_constant_120 : decode cX12_constant 120 = .ok (.iload_n 2, 1) := by decide +kernel
set_option maxRecDepth 100000 in
theorem dX12_constant_121 : decode cX12_constant 121 = .ok (.putfield 767, 3) := by decide +kernel
set_option maxRecDepth 100000 in
theorem dX12_constant_124 : decode cX12_constant 124 = .ok (.goto 85, 3) := by decide +kernel
set_option maxRecDepth 100000 in
theorem dX12_constant_127 : decode cX12_constant 127 = .ok (.aload_n 0, 1) := by decide +kernel
set_option maxRecDepth 100000 in
theorem dX12_constant_128 : decode cX12_constant 128 = .ok (.aload_n 0, 1) := by decide +kernel
set_option maxRecDepth 100000 in
theorem dX12_constant_129 : decode cX12_constant 129 = .ok (.getfield 109, 3) := by decide +kernel
set_option maxRecDepth 100000 in
theorem dX12_constant_132 : decode cX12_constant 132 = .ok (.putfield 757, 3) := by decide +kernel
set_option maxRecDepth 100000 in
theorem dX12_constant_135 : decode cX12_constant 135 = .ok (.aload_n 0, 1) := by decide +kernel
set_option maxRecDepth 100000 in
theorem dX12_constant_136 : decode cX12_constant 136 = .ok (.aload_n 0, 1) := by decide +kernel
set_option maxRecDepth 100000 in
theorem dX12_constant_137 : decode cX12_constant 137 = .ok (.getfield 32, 3) := by decide +kernel
set_option maxRecDepth 100000 in
theorem dX12_constant_140 : decode cX12_constant 140 = .ok (.iload_n 2, 1) := by decide +kernel
set_option maxRecDepth 100000 in
theorem dX12_constant_141 : decode cX12_constant 141 = .ok (.iaload, 1) := by decide +kernel
set_option maxRecDepth 100000 in
theorem dX12_constant_142 : decode cX12_constant 142 = .ok (.i2l, 1) := by decide +kernel
set_option maxRecDepth 100000 in
theorem dX12_constant_143 : decode cX12_constant 143 = .ok (.putfield 760, 3) := by decide +kernel
set_option maxRecDepth 100000 in
theorem dX12_constant_146 : decode cX12_constant 146 = .ok (.goto 63, 3) := by decide +kernel
set_option maxRecDepth 100000 in
theorem dX12_constant_149 : decode cX12_constant 149 = .ok (.aload_n 0, 1) := by decide +kernel
set_option maxRecDepth 100000 in
theorem dX12_constant_150 : decode cX12_constant 150 = .ok (.aload_n 0, 1) := by decide +kernel
set_option maxRecDepth 100000 in
theorem dX12_constant_151 : decode cX12_constant 151 = .ok (.getfield 113, 3) := by decide +kernel
set_option maxRecDepth 100000 in
theorem dX12_constant_154 : decode cX12_constant 154 = .ok (.putfield 757, 3) := by decide +kernel
set_option maxRecDepth 100000 in
theorem dX12_constant_157 : decode cX12_constant 157 = .ok (.aload_n 0, 1) := by decide +kernel
set_option maxRecDepth 100000 in
theorem dX12_constant_158 : decode cX12_constant 158 = .ok (.aload_n 0, 1) := by decide +kernel
set_option maxRecDepth 100000 in
theorem dX12_constant_159 : decode cX12_constant 159 = .ok (.getfield 38, 3) := by decide +kernel
set_option maxRecDepth 100000 in
theorem dX12_constant_162 : decode cX12_constant 162 = .ok (.iload_n 2, 1) := by decide +kernel
set_option maxRecDepth 100000 in
theorem dX12_constant_163 : decode cX12_constant 163 = .ok (.daload, 1) := by decide +kernel
set_option maxRecDepth 100000 in
theorem dX12_constant_164 : decode cX12_constant 164 = .ok (.putfield 763, 3) := by decide +kernel
set_option maxRecDepth 100000 in
theorem dX12_constant_167 : decode cX12_constant 167 = .ok (.goto 42, 3) := by decide +kernel
set_option maxRecDepth 100000 in
theorem dX12_constant_170 : decode cX12_constant 170 = .ok (.aload_n 0, 1) := by decide +kernel
set_option maxRecDepth 100000 in
theorem dX12_constant_171 : decode cX12_constant 171 = .ok (.iload_n 2, 1) := by decide +kernel
set_option maxRecDepth 100000 in
theorem dX12_constant_172 : decode cX12_constant 172 = .ok (.iconst 1, 1) := by decide +kernel
set_option maxRecDepth 100000 in
theorem dX12_constant_173 : decode cX12_constant 173 = .ok (.invokevirtual 838, 3) := by decide +kernel
set_option maxRecDepth 100000 in
theorem dX12_constant_176 : decode cX12_constant 176 = .ok (.astore_n 3, 1) := by decide +kernel
set_option maxRecDepth 100000 in
theorem dX12_constant_177 : decode cX12_constant 177 = .ok (.aload_n 0, 1) := by decide +kernel
set_option maxRecDepth 100000 in
theorem dX12_constant_178 : decode cX12_constant 178 = .ok (.aload_n 3, 1) := by decide +kernel
set_option maxRecDepth 100000 in
theorem dX12_constant_179 : decode cX12_constant 179 = .ok (.getfield 612, 3) := by decide +kernel
set_option maxRecDepth 100000 in
theorem dX12_constant_182 : decode cX12_constant 182 = .ok (.putfield 757, 3) := by decide +kernel
set_option maxRecDepth 100000 in
theorem dX12_constant_185 : decode cX12_constant 185 = .ok (.aload_n 0, 1) := by decide +kernel
set_option maxRecDepth 100000 in
theorem dX12_constant_186 : decode cX12_constant 186 = .ok (.aload_n 3, 1) := by decide +kernel
set_option maxRecDepth 100000 in
theorem dX12_constant_187 : decode cX12_constant 187 = .ok (.getfield 624, 3) := by decide +kernel
set_option maxRecDepth 100000 in
theorem dX12_constant_190 : decode cX12_constant 190 = .ok (.putfield 760, 3) := by decide +kernel
set_option maxRecDepth 100000 in
theorem dX12_constant_193 : decode cX12_constant 193 = .ok (.aload_n 0, 1) := by decide +kernel
set_option maxRecDepth 100000 in
theorem dX12_constant_194 : decode cX12_constant 194 = .ok (.aload_n 3, 1) := by decide +kernel
set_option maxRecDepth 100000 in
theorem dX12_constant_195 : decode cX12_constant 195 = .ok (.getfield 770, 3) := by decide +kernel
set_option maxRecDepth 100000 in
theorem dX12_constant_198 : decode cX12_constant 198 = .ok (.putfield 763, 3) := by decide +kernel
set_option maxRecDepth 100000 in
theorem dX12_constant_201 : decode cX12_constant 201 = .ok (.aload_n 0, 1) := by decide +kernel
set_option maxRecDepth 100000 in
theorem dX12_constant_202 : decode cX12_constant 202 = .ok (.aload_n 3, 1) := by decide +kernel
set_option maxRecDepth 100000 in
theorem dX12_constant_203 : decode cX12_constant 203 = .ok (.getfield 772, 3) := by decide +kernel
set_option maxRecDepth 100000 in
theorem dX12_constant_206 : decode cX12_constant 206 = .ok (.putfield 767, 3) := by decide +kernel
set_option maxRecDepth 100000 in
theorem dX12_constant_209 : decode cX12_constant 209 = .ok (.aload_n 0, 1) := by decide +kernel
set_option maxRecDepth 100000 in
theorem dX12_constant_210 : decode cX12_constant 210 = .ok (.getfield 85, 3) := by decide +kernel
set_option maxRecDepth 100000 in
theorem dX12_constant_213 : decode cX12_constant 213 = .ok (.iload_n 1, 1) := by decide +kernel
set_option maxRecDepth 100000 in
theorem dX12_constant_214 : decode cX12_constant 214 = .ok (.iaload, 1) := by decide +kernel
set_option maxRecDepth 100000 in
theorem dX12_constant_215 : decode cX12_constant 215 = .ok (.iconst (-1), 1) := by decide +kernel
set_option maxRecDepth 100000 in
theorem dX12_constant_216 : decode cX12_constant 216 = .ok (.if_icmp .ne 4, 3) := by decide +kernel
set_option maxRecDepth 100000 in
theorem dX12_constant_219 : decode cX12_constant 219 = .ok (.return_, 1) := by decide +kernel
set_option maxRecDepth 100000 in
theorem dX12_constant_220 : decode cX12_constant 220 = .ok (.aload_n 0, 1) := by decide +kernel
set_option maxRecDepth 100000 in
theorem dX12_constant_221 : decode cX12_constant 221 = .ok (.getfield 757, 3) := by decide +kernel
set_option maxRecDepth 100000 in
theorem dX12_constant_224 : decode cX12_constant 224 = .ok (.invokevirtual 842, 3) := by decide +kernel
set_option maxRecDepth 100000 in
theorem dX12_constant_227 : decode cX12_constant 227 = .ok (.ifCond .ne 15, 3) := by decide +kernel
set_option maxRecDepth 100000 in
theorem dX12_constant_230 : decode cX12_constant 230 = .ok (.aload_n 0, 1) := by decide +kernel
set_option maxRecDepth 100000 in
theorem dX12_constant_231 : decode cX12_constant 231 = .ok (.bipush 7, 2) := by decide +kernel
set_option maxRecDepth 100000 in
theorem dX12_constant_233 : decode cX12_constant 233 = .ok (.aload_n 0, 1) := by decide +kernel
set_option maxRecDepth 100000 in
theorem dX12_constant_234 : decode cX12_constant 234 = .ok (.getfield 85, 3) := by decide +kernel
set_option maxRecDepth 100000 in
theorem dX12_constant_237 : decode cX12_constant 237 = .ok (.iload_n 1, 1) := by decide +kernel
set_option maxRecDepth 100000 in
theorem dX12_constant_238 : decode cX12_constant 238 = .ok (.iaload, 1) := by decide +kernel
set_option maxRecDepth 100000 in
theorem dX12_constant_239 : decode cX12_constant 239 = .ok (.invokevirtual 570, 3) := by decide +kernel
set_option maxRecDepth 100000 in
theorem dX12_constant_242 : decode cX12_constant 242 = .ok (.aload_n 0, 1) := by decide +kernel
set_option maxRecDepth 100000 in
theorem dX12_constant_243 : decode cX12_constant 243 = .ok (.getfield 26, 3) := by decide +kernel
set_option maxRecDepth 100000 in
theorem dX12_constant_246 : decode cX12_constant 246 = .ok (.aload_n 0, 1) := by decide +kernel
set_option maxRecDepth 100000 in
theorem dX12_constant_247 : decode cX12_constant 247 = .ok (.getfield 85, 3) := by decide +kernel
set_option maxRecDepth 100000 in
theorem dX12_constant_250 : decode cX12_constant 250 = .ok (.iload_n 1, 1) := by decide +kernel
set_option maxRecDepth 100000 in
theorem dX12_constant_251 : decode cX12_constant 251 = .ok (.iaload, 1) := by decide +kernel
set_option maxRecDepth 100000 in
theorem dX12_constant_252 : decode cX12_constant 252 = .ok (.iaload, 1) := by decide +kernel
set_option maxRecDepth 100000 in
theorem dX12_constant_253 : decode cX12_constant 253 = .ok (.bipush 51, 2) := by decide +kernel
set_option maxRecDepth 100000 in
theorem dX12_constant_255 : decode cX12_constant 255 = .ok (.if_icmp .ne 21, 3) := by decide +kernel
set_option maxRecDepth 100000 in
theorem dX12_constant_258 : decode cX12_constant 258 = .ok (.aload_n 0, 1) := by decide +kernel
set_option maxRecDepth 100000 in
theorem dX12_constant_259 : decode cX12_constant 259 = .ok (.aload_n 0, 1) := by decide +kernel
set_option maxRecDepth 100000 in
theorem dX12_constant_260 : decode cX12_constant 260 = .ok (.getfield 760, 3) := by decide +kernel
set_option maxRecDepth 100000 in
theorem dX12_constant_263 : decode cX12_constant 263 = .ok (.lneg, 1) := by decide +kernel
set_option maxRecDepth 100000 in
theorem dX12_constant_264 : decode cX12_constant 264 = .ok (.putfield 760, 3) := by decide +kernel
set_option maxRecDepth 100000 in
theorem dX12_constant_267 : decode cX12_constant 267 = .ok (.aload_n 0, 1) := by decide +kernel
set_option maxRecDepth 100000 in
theorem dX12_constant_268 : decode cX12_constant 268 = .ok (.aload_n 0, 1) := by decide +kernel
set_option maxRecDepth 100000 in
theorem dX12_constant_269 : decode cX12_constant 269 = .ok (.getfield 763, 3) := by decide +kernel
set_option maxRecDepth 100000 in
theorem dX12_constant_272 : decode cX12_constant 272 = .ok (.dneg, 1) := by decide +kernel
set_option maxRecDepth 100000 in
theorem dX12_constant_273 : decode cX12_constant 273 = .ok (.putfield 763, 3) := by decide +kernel
set_option maxRecDepth 100000 in
theorem dX12_constant_276 : decode cX12_constant 276 = .ok (.return_, 1) := by decide +kernel
set_option maxRecDepth 100000 in
def bX12_constant_276 (G : xG) (fr lo : Nat) (h : xH) (Q : Outcome → xH → Prop) : Prop := Q (.returned none) h
set_option maxRecDepth 100000 in
theorem uX12_constant_276 {G : xG} {fr lo : Nat} {h : xH} {Q : Outcome → xH → Prop} (hq : bX12_constant_276 G fr lo h Q) : xP G YX12_constant fr lo 276 [] [] h Q := by
  unfold bX12_constant_276 at hq
  exact x_vret rfl dX12_constant_276 hq
set_option maxRecDepth 100000 in
def bX12_constant_242 (G : xG) (fr lo : Nat) (x0 : Nat) (x1 : Int32) (h : xH) (Q : Outcome → xH → Prop) : Prop := tg h x0 = 13 ∧ tg h (fR h x0 3107) = 100 ∧ vp_in x1 (ln h (fR h x0 3107)) ∧ tg h (fR h x0 3082) = 100 ∧ vp_in (aI h (fR h x0 3107) (Int32.toNatClampNeg x1)) (ln h (fR h x0 3082)) ∧ ((¬ (aI h (fR h x0 3082) (Int32.toNatClampNeg (aI h (fR h x0 3107) (Int32.toNatClampNeg x1)))) = 51 → bX12_constant_276 G fr lo h Q) ∧ ((aI h (fR h x0 3082) (Int32.toNatClampNeg (aI h (fR h x0 3107) (Int32.toNatClampNeg x1)))) = 51 → (∀ h7 : xH, h7 = sJ h x0 3139 (-(fJ h x0 3139)) → (∀ h10 : xH, h10 = sD h7 x0 3140 (FP.dneg (fD h7 x0 3140)) → bX12_constant_276 G fr lo h10 Q))))
set_option maxRecDepth 100000 in
theorem uX12_constant_242 {G : xG} {fr lo : Nat} {x0 : Nat} {x1 : Int32} {h : xH} {Q : Outcome → xH → Prop} (hq : bX12_constant_242 G fr lo x0 x1 h Q) : xP G YX12_constant fr lo 242 [(0, rv x0), (1, .int x1)] [] h Q := by
  unfold bX12_constant_242 at hq
  refine x_aload_n 0 dX12_constant_242 rfl ?_
  obtain ⟨g1, hq⟩ := hq
  refine x_get (v := rv (fR h x0 3082)) fdX12_26 dX12_constant_243 g1 rfl ?_
  refine x_aload_n 0 dX12_constant_246 rfl ?_
  refine x_get (v := rv (fR h x0 3107)) fdX12_85 dX12_constant_247 g1 rfl ?_
  refine x_iload_n 1 dX12_constant_250 rfl ?_
  obtain ⟨g2, hq⟩ := hq
  obtain ⟨i3, hq⟩ := hq
  refine x_iald 0 (Or.inl rfl) g2 i3 dX12_constant_251 ?_
  obtain ⟨g4, hq⟩ := hq
  obtain ⟨i5, hq⟩ := hq
  refine x_iald 0 (Or.inl rfl) g4 i5 dX12_constant_252 ?_
  refine x_bipush (v := 51) dX12_constant_253 (by decide) ?_
  refine x_icmp_ne (tgt := 276) dX12_constant_255 (by decide) (fun c6 => ?_) (fun c6 => ?_)
  · replace hq := hq.1 c6
    refine xP.pick (lv' := []) [] rfl ?_
    exact uX12_constant_276 hq
  · replace hq := hq.2 c6
    refine x_aload_n 0 dX12_constant_258 rfl ?_
    refine x_aload_n 0 dX12_constant_259 rfl ?_
    refine x_get (v := .long (fJ h x0 3139)) fdX12_760 dX12_constant_260 g1 rfl ?_
    refine x_lneg dX12_constant_263 ?_
    obtain ⟨h7, e8⟩ : ∃ y, y = sJ h x0 3139 (-(fJ h x0 3139)) := ⟨_, rfl⟩
    replace hq := hq h7 e8
    refine x_putJ fdX12_760 dX12_constant_264 g1 (Or.inl (by rw [g1]; rfl)) rfl e8 ?_
    refine x_aload_n 0 dX12_constant_267 rfl ?_
    refine x_aload_n 0 dX12_constant_268 rfl ?_
    have t9 : tg h7 x0 = 13 := by rw [e8]; exact g1
    refine x_get (v := .double (fD h7 x0 3140)) fdX12_763 dX12_constant_269 t9 rfl ?_
    refine x_dneg dX12_constant_272 ?_
    obtain ⟨h10, e11⟩ : ∃ y, y = sD h7 x0 3140 (FP.dneg (fD h7 x0 3140)) := ⟨_, rfl⟩
    replace hq := hq h10 e11
    refine x_putD fdX12_763 dX12_constant_273 t9 (Or.inl (by rw [t9]; rfl)) rfl e11 ?_
    refine xP.pick (lv' := []) [] rfl ?_
    exact uX12_constant_276 hq
set_option maxRecDepth 100000 in
def bX12_constant_209 (G : xG) (fr lo : Nat) (x0 : Nat) (x1 : Int32) (h : xH) (Q : Outcome → xH → Prop) : Prop := tg h x0 = 13 ∧ tg h (fR h x0 3107) = 100 ∧ vp_in x1 (ln h (fR h x0 3107)) ∧ ((¬ (aI h (fR h x0 3107) (Int32.toNatClampNeg x1)) = (-1) → tg h (fR h x0 3138) = 14 ∧ 1 ≤ fr ∧ 12 ≤ lo ∧ xRi G YX13_isNumber (fr - 1) (lo - 12) [rv (fR h x0 3138)] h (fun x9 h8 => xext h h8 → ((¬ x9 = 0 → bX12_constant_242 G fr lo x0 x1 h8 Q) ∧ (x9 = 0 → tg h8 (fR h8 x0 3107) = 100 ∧ vp_in x1 (ln h8 (fR h8 x0 3107)) ∧ 1 ≤ fr ∧ 14 ≤ lo ∧ xRv G YX12_refuse (fr - 1) (lo - 14) [rv x0, .int 7, .int (aI h8 (fR h8 x0 3107) (Int32.toNatClampNeg x1))] h8 (fun h17 => xext h8 h17 → bX12_constant_242 G fr lo x0 x1 h17 Q) (fun r h2 => Q (.threw r) h2)))) (fun r h2 => Q (.threw r) h2)) ∧ ((aI h (fR h x0 3107) (Int32.toNatClampNeg x1)) = (-1) → Q (.returned none) h))
set_option maxRecDepth 100000 in
theorem uX12_constant_209 {G : xG} {fr lo : Nat} {x0 : Nat} {x1 : Int32} {h : xH} {Q : Outcome → xH → Prop} (hq : bX12_constant_209 G fr lo x0 x1 h Q) : xP G YX12_constant fr lo 209 [(0, rv x0), (1, .int x1)] [] h Q := by
  unfold bX12_constant_209 at hq
  refine x_aload_n 0 dX12_constant_209 rfl ?_
  obtain ⟨g1, hq⟩ := hq
  refine x_get (v := rv (fR h x0 3107)) fdX12_85 dX12_constant_210 g1 rfl ?_
  refine x_iload_n 1 dX12_constant_213 rfl ?_
  obtain ⟨g2, hq⟩ := hq
  obtain ⟨i3, hq⟩ := hq
  refine x_iald 0 (Or.inl rfl) g2 i3 dX12_constant_214 ?_
  refine x_iconst (v := (-1)) dX12_constant_215 (by decide) ?_
  refine x_icmp_ne (tgt := 220) dX12_constant_216 (by decide) (fun c4 => ?_) (fun c4 => ?_)
  · replace hq := hq.1 c4
    refine x_aload_n 0 dX12_constant_220 rfl ?_
    refine x_get (v := rv (fR h x0 3138)) fdX12_757 dX12_constant_221 g1 rfl ?_
    obtain ⟨g5, hq⟩ := hq
    obtain ⟨g6, g7, hq⟩ := hq
    refine x_callV (Yc := YX13_isNumber) (as := []) (st := []) q4165 mvX13_isNumber g5 rfl dX12_constant_224 (xle (xal1 (rv_cat _) xal0) (by decide)) (xfr g6) (xlo xsw0 (by decide) g7) (xKi hq (fun x9 h8 hq e10 => ?_) (fun _ _ q _ => q))
    replace hq := hq e10
    refine x_if_ne (tgt := 242) dX12_constant_227 (by decide) (fun c11 => ?_) (fun c11 => ?_)
    · replace hq := hq.1 c11
      exact uX12_constant_242 hq
    · replace hq := hq.2 c11
      refine x_aload_n 0 dX12_constant_230 rfl ?_
      refine x_bipush (v := 7) dX12_constant_231 (by decide) ?_
      refine x_aload_n 0 dX12_constant_233 rfl ?_
      have t12 : tg h8 x0 = 13 := e10.tg g1 (by decide)
      refine x_get (v := rv (fR h8 x0 3107)) fdX12_85 dX12_constant_234 t12 rfl ?_
      refine x_iload_n 1 dX12_constant_237 rfl ?_
      obtain ⟨g13, hq⟩ := hq
      obtain ⟨i14, hq⟩ := hq
      refine x_iald 0 (Or.inl rfl) g13 i14 dX12_constant_238 ?_
      obtain ⟨g15, g16, hq⟩ := hq
      refine x_callV (Yc := YX12_refuse) (as := [.int 7, .int (aI h8 (fR h8 x0 3107) (Int32.toNatClampNeg x1))]) (st := []) q4095 mvX12_refuse t12 rfl dX12_constant_239 (xle (xal1 (rv_cat _) (xal1 rfl (xal1 rfl xal0))) (by decide)) (xfr g15) (xlo xsw0 (by decide) g16) (xKv hq (fun h17 hq e19 => ?_) (fun _ _ q _ => q))
      replace hq := hq e19
      exact uX12_constant_242 hq
  · replace hq := hq.2 c4
    exact x_vret rfl dX12_constant_219 hq
set_option maxRecDepth 100000 in
def bX12_constant (G : xG) (fr lo : Nat) (x0 : Nat) (x1 : Int32) (h : xH) (Q : Outcome → xH → Prop) : Prop := tg h x0 = 13 ∧ tg h (fR h x0 3106) = 100 ∧ vp_in x1 (ln h (fR h x0 3106)) ∧ (∀ h4 : xH, h4 = sJ h x0 3139 0 → (∀ h7 : xH, h7 = sD h4 x0 3140 FP.dconst0 → (∀ h10 : xH, h10 = sI h7 x0 3141 (-1) → tg h10 (fR h10 x0 3082) = 100 ∧ vp_in (aI h (fR h x0 3106) (Int32.toNatClampNeg x1)) (ln h10 (fR h10 x0 3082)) ∧ (((aI h10 (fR h10 x0 3082) (Int32.toNatClampNeg (aI h (fR h x0 3106) (Int32.toNatClampNeg x1)))) = 41 → (∀ h16 : xH, h16 = sR h10 x0 3138 (fR h10 x0 3115) → tg h16 (fR h16 x0 3084) = 100 ∧ vp_in (aI h (fR h x0 3106) (Int32.toNatClampNeg x1)) (ln h16 (fR h16 x0 3084)) ∧ (∀ h21 : xH, h21 = sJ h16 x0 3139 (Int32.toInt64 (aI h16 (fR h16 x0 3084) (Int32.toNatClampNeg (aI h (fR h x0 3106) (Int32.toNatClampNeg x1))))) → bX12_constant_209 G fr lo x0 x1 h21 Q))) ∧ ((aI h10 (fR h10 x0 3082) (Int32.toNatClampNeg (aI h (fR h x0 3106) (Int32.toNatClampNeg x1)))) = 42 → (∀ h24 : xH, h24 = sR h10 x0 3138 (fR h10 x0 3116) → tg h24 (fR h24 x0 3086) = 102 ∧ vp_in (aI h (fR h x0 3106) (Int32.toNatClampNeg x1)) (ln h24 (fR h24 x0 3086)) ∧ (∀ h29 : xH, h29 = sD h24 x0 3140 (aD h24 (fR h24 x0 3086) (Int32.toNatClampNeg (aI h (fR h x0 3106) (Int32.toNatClampNeg x1)))) → bX12_constant_209 G fr lo x0 x1 h29 Q))) ∧ ((aI h10 (fR h10 x0 3082) (Int32.toNatClampNeg (aI h (fR h x0 3106) (Int32.toNatClampNeg x1)))) = 43 → tg h10 (fR h10 x0 3085) = 100 ∧ vp_in (aI h (fR h x0 3106) (Int32.toNatClampNeg x1)) (ln h10 (fR h10 x0 3085)) ∧ ((¬ (aI h10 (fR h10 x0 3085) (Int32.toNatClampNeg (aI h (fR h x0 3106) (Int32.toNatClampNeg x1)))) = 1 → nx h10 + 1 ≤ xGN G ∧ us h10 + 8 ≤ xGU G ∧ (∀ (a37 : Nat) (h38 : xH), a37 = nx h10 + 1 → h38 = nO h10 14 8 → xfresh h10 a37 → 1 ≤ fr ∧ 15 ≤ lo ∧ xRv G YX13_init (fr - 1) (lo - 15) [rv a37, .int 13] h38 (fun h45 => xext h38 h45 → (∀ h50 : xH, h50 = sR h45 x0 3138 a37 → tg h50 (fR h50 x0 3085) = 100 ∧ vp_in (aI h (fR h x0 3106) (Int32.toNatClampNeg x1)) (ln h50 (fR h50 x0 3085)) ∧ tg h50 (fR h50 x0 3138) = 14 ∧ (∀ h56 : xH, h56 = sI h50 (fR h50 x0 3138) 3330 (aI h50 (fR h50 x0 3085) (Int32.toNatClampNeg (aI h (fR h x0 3106) (Int32.toNatClampNeg x1)))) → (∀ h59 : xH, h59 = sI h56 x0 3141 (aI h (fR h x0 3106) (Int32.toNatClampNeg x1)) → bX12_constant_209 G fr lo x0 x1 h59 Q)))) (fun r h2 => Q (.threw r) h2))) ∧ ((aI h10 (fR h10 x0 3085) (Int32.toNatClampNeg (aI h (fR h x0 3106) (Int32.toNatClampNeg x1)))) = 1 → (∀ h61 : xH, h61 = sR h10 x0 3138 (fR h10 x0 3118) → tg h61 (fR h61 x0 3084) = 100 ∧ vp_in (aI h (fR h x0 3106) (Int32.toNatClampNeg x1)) (ln h61 (fR h61 x0 3084)) ∧ tg h61 (fR h61 x0 3088) = 103 ∧ vp_in (aI h61 (fR h61 x0 3084) (Int32.toNatClampNeg (aI h (fR h x0 3106) (Int32.toNatClampNeg x1)))) (ln h61 (fR h61 x0 3088)) ∧ (∀ h68 : xH, h68 = sJ h61 x0 3139 (Int32.toInt64 (aI h61 (fR h61 x0 3088) (Int32.toNatClampNeg (aI h61 (fR h61 x0 3084) (Int32.toNatClampNeg (aI h (fR h x0 3106) (Int32.toNatClampNeg x1))))))) → bX12_constant_209 G fr lo x0 x1 h68 Q))))) ∧ (¬ (aI h10 (fR h10 x0 3082) (Int32.toNatClampNeg (aI h (fR h x0 3106) (Int32.toNatClampNeg x1)))) = 41 → ¬ (aI h10 (fR h10 x0 3082) (Int32.toNatClampNeg (aI h (fR h x0 3106) (Int32.toNatClampNeg x1)))) = 42 → ¬ (aI h10 (fR h10 x0 3082) (Int32.toNatClampNeg (aI h (fR h x0 3106) (Int32.toNatClampNeg x1)))) = 43 → 1 ≤ fr ∧ 15 ≤ lo ∧ xRr G YX12_findOf (fr - 1) (lo - 15) [rv x0, .int (aI h (fR h x0 3106) (Int32.toNatClampNeg x1)), .int 1] h10 (fun x73 h72 => xext h10 h72 → tg h72 x73 = 24 ∧ (∀ h77 : xH, h77 = sR h72 x0 3138 (fR h72 x73 5890) → (∀ h81 : xH, h81 = sJ h77 x0 3139 (fJ h77 x73 5891) → (∀ h85 : xH, h85 = sD h81 x0 3140 (fD h81 x73 5892) → (∀ h89 : xH, h89 = sI h85 x0 3141 (fI h85 x73 5904) → bX12_constant_209 G fr lo x0 x1 h89 Q))))) (fun r h2 => Q (.threw r) h2))))))
set_option maxRecDepth 100000 in
theorem uX12_constant {G : xG} {fr lo : Nat} {x0 : Nat} {x1 : Int32} {h : xH} {Q : Outcome → xH → Prop} (hq : bX12_constant G fr lo x0 x1 h Q) : xP G YX12_constant fr lo 0 [(0, rv x0), (1, .int x1)] [] h Q := by
  unfold bX12_constant at hq
  refine x_aload_n 0 dX12_constant_0 rfl ?_
  obtain ⟨g1, hq⟩ := hq
  refine x_get (v := rv (fR h x0 3106)) fdX12_82 dX12_constant_1 g1 rfl ?_
  refine x_iload_n 1 dX12_constant_4 rfl ?_
  obtain ⟨g2, hq⟩ := hq
  obtain ⟨i3, hq⟩ := hq
  refine x_iald 0 (Or.inl rfl) g2 i3 dX12_constant_5 ?_
  refine x_istore_n (lv' := [(2, .int (aI h (fR h x0 3106) (Int32.toNatClampNeg x1))), (0, rv x0), (1, .int x1)]) dX12_constant_6 (by decide) rfl ?_
  refine x_aload_n 1 dX12_constant_7 rfl ?_
  refine x_lconst (v := 0) dX12_constant_8 (by decide) ?_
  obtain ⟨h4, e5⟩ : ∃ y, y = sJ h x0 3139 0 := ⟨_, rfl⟩
  replace hq := hq h4 e5
  refine x_putJ fdX12_760 dX12_constant_9 g1 (Or.inl (by rw [g1]; rfl)) rfl e5 ?_
  refine x_aload_n 1 dX12_constant_12 rfl ?_
  refine x_dconst0 dX12_constant_13 ?_
  have t6 : tg h4 x0 = 13 := by rw [e5]; exact g1
  obtain ⟨h7, e8⟩ : ∃ y, y = sD h4 x0 3140 FP.dconst0 := ⟨_, rfl⟩
  replace hq := hq h7 e8
  refine x_putD fdX12_763 dX12_constant_14 t6 (Or.inl (by rw [t6]; rfl)) rfl e8 ?_
  refine x_aload_n 1 dX12_constant_17 rfl ?_
  refine x_iconst (v := (-1)) dX12_constant_18 (by decide) ?_
  have t9 : tg h7 x0 = 13 := by rw [e8]; exact t6
  obtain ⟨h10, e11⟩ : ∃ y, y = sI h7 x0 3141 (-1) := ⟨_, rfl⟩
  replace hq := hq h10 e11
  refine x_putI fdX12_767 xty_I1 dX12_constant_19 t9 (Or.inl (by rw [t9]; rfl)) xnI rfl e11 ?_
  refine x_aload_n 1 dX12_constant_22 rfl ?_
  have t12 : tg h10 x0 = 13 := by rw [e11]; exact t9
  refine x_get (v := rv (fR h10 x0 3082)) fdX12_26 dX12_constant_23 t12 rfl ?_
  refine x_iload_n 0 dX12_constant_26 rfl ?_
  obtain ⟨g13, hq⟩ := hq
  obtain ⟨i14, hq⟩ := hq
  refine x_iald 0 (Or.inl rfl) g13 i14 dX12_constant_27 ?_
  by_cases c15 : (aI h10 (fR h10 x0 3082) (Int32.toNatClampNeg (aI h (fR h x0 3106) (Int32.toNatClampNeg x1)))) = 41
  · replace hq := hq.1 c15
    refine x_tin (tgt := 127) (off := 99) 41 c15 dX12_constant_28 (by decide) (by decide) (by decide) (by decide) ?_
    refine x_aload_n 1 dX12_constant_127 rfl ?_
    refine x_aload_n 1 dX12_constant_128 rfl ?_
    refine x_get (v := rv (fR h10 x0 3115)) fdX12_109 dX12_constant_129 t12 rfl ?_
    obtain ⟨h16, e17⟩ : ∃ y, y = sR h10 x0 3138 (fR h10 x0 3115) := ⟨_, rfl⟩
    replace hq := hq h16 e17
    refine x_putR fdX12_757 xty_O dX12_constant_132 t12 (Or.inl (by rw [t12]; rfl)) rfl e17 ?_
    refine x_aload_n 1 dX12_constant_135 rfl ?_
    refine x_aload_n 1 dX12_constant_136 rfl ?_
    have t18 : tg h16 x0 = 13 := by rw [e17]; exact t12
    refine x_get (v := rv (fR h16 x0 3084)) fdX12_32 dX12_constant_137 t18 rfl ?_
    refine x_iload_n 0 dX12_constant_140 rfl ?_
    obtain ⟨g19, hq⟩ := hq
    obtain ⟨i20, hq⟩ := hq
    refine x_iald 0 (Or.inl rfl) g19 i20 dX12_constant_141 ?_
    refine x_i2l dX12_constant_142 ?_
    obtain ⟨h21, e22⟩ : ∃ y, y = sJ h16 x0 3139 (Int32.toInt64 (aI h16 (fR h16 x0 3084) (Int32.toNatClampNeg (aI h (fR h x0 3106) (Int32.toNatClampNeg x1))))) := ⟨_, rfl⟩
    replace hq := hq h21 e22
    refine x_putJ fdX12_760 dX12_constant_143 t18 (Or.inl (by rw [t18]; rfl)) rfl e22 ?_
    refine x_goto (tgt := 209) dX12_constant_146 (by decide) ?_
    refine xP.pick (lv' := [(0, rv x0), (1, .int x1)]) [1, 2] rfl ?_
    exact uX12_constant_209 hq
  replace hq := hq.2
  by_cases c23 : (aI h10 (fR h10 x0 3082) (Int32.toNatClampNeg (aI h (fR h x0 3106) (Int32.toNatClampNeg x1)))) = 42
  · replace hq := hq.1 c23
    refine x_tin (tgt := 149) (off := 121) 42 c23 dX12_constant_28 (by decide) (by decide) (by decide) (by decide) ?_
    refine x_aload_n 1 dX12_constant_149 rfl ?_
    refine x_aload_n 1 dX12_constant_150 rfl ?_
    refine x_get (v := rv (fR h10 x0 3116)) fdX12_113 dX12_constant_151 t12 rfl ?_
    obtain ⟨h24, e25⟩ : ∃ y, y = sR h10 x0 3138 (fR h10 x0 3116) := ⟨_, rfl⟩
    replace hq := hq h24 e25
    refine x_putR fdX12_757 xty_O dX12_constant_154 t12 (Or.inl (by rw [t12]; rfl)) rfl e25 ?_
    refine x_aload_n 1 dX12_constant_157 rfl ?_
    refine x_aload_n 1 dX12_constant_158 rfl ?_
    have t26 : tg h24 x0 = 13 := by rw [e25]; exact t12
    refine x_get (v := rv (fR h24 x0 3086)) fdX12_38 dX12_constant_159 t26 rfl ?_
    refine x_iload_n 0 dX12_constant_162 rfl ?_
    obtain ⟨g27, hq⟩ := hq
    obtain ⟨i28, hq⟩ := hq
    refine x_dald g27 i28 dX12_constant_163 ?_
    obtain ⟨h29, e30⟩ : ∃ y, y = sD h24 x0 3140 (aD h24 (fR h24 x0 3086) (Int32.toNatClampNeg (aI h (fR h x0 3106) (Int32.toNatClampNeg x1)))) := ⟨_, rfl⟩
    replace hq := hq h29 e30
    refine x_putD fdX12_763 dX12_constant_164 t26 (Or.inl (by rw [t26]; rfl)) rfl e30 ?_
    refine x_goto (tgt := 209) dX12_constant_167 (by decide) ?_
    refine xP.pick (lv' := [(0, rv x0), (1, .int x1)]) [1, 2] rfl ?_
    exact uX12_constant_209 hq
  replace hq := hq.2
  by_cases c31 : (aI h10 (fR h10 x0 3082) (Int32.toNatClampNeg (aI h (fR h x0 3106) (Int32.toNatClampNeg x1)))) = 43
  · replace hq := hq.1 c31
    refine x_tin (tgt := 56) (off := 28) 43 c31 dX12_constant_28 (by decide) (by decide) (by decide) (by decide) ?_
    refine x_aload_n 1 dX12_constant_56 rfl ?_
    refine x_get (v := rv (fR h10 x0 3085)) fdX12_35 dX12_constant_57 t12 rfl ?_
    refine x_iload_n 0 dX12_constant_60 rfl ?_
    obtain ⟨g32, hq⟩ := hq
    obtain ⟨i33, hq⟩ := hq
    refine x_iald 0 (Or.inl rfl) g32 i33 dX12_constant_61 ?_
    refine x_iconst (v := 1) dX12_constant_62 (by decide) ?_
    refine x_icmp_ne (tgt := 93) dX12_constant_63 (by decide) (fun c34 => ?_) (fun c34 => ?_)
    · replace hq := hq.1 c34
      refine x_aload_n 1 dX12_constant_93 rfl ?_
      obtain ⟨g35, g36, hq⟩ := hq
      obtain ⟨a37, e39⟩ : ∃ y, y = nx h10 + 1 := ⟨_, rfl⟩
      obtain ⟨h38, e40⟩ : ∃ y, y = nO h10 14 8 := ⟨_, rfl⟩
      refine x_new' cdX12_94 dX12_constant_94 g35 g36 e39 e40 (fun f41 => ?_)
      replace hq := hq a37 h38 e39 e40 f41
      have t42 : tg h38 a37 = 14 := by rw [e40, e39]; exact tg_nO
      refine x_dup dX12_constant_97 (rv_cat _) ?_
      refine x_bipush (v := 13) dX12_constant_98 (by decide) ?_
      obtain ⟨g43, g44, hq⟩ := hq
      refine x_callI (Yc := YX13_init) (as := [.int 13]) (st := [rv a37, rv x0]) q3209 miX13_init (by rw [t42]; decide) rfl dX12_constant_100 (xle (xal1 (rv_cat _) (xal1 rfl xal0)) (by decide)) (xfr g43) (xlo (xsw1 (rv_cat _) (xsw1 (rv_cat _) xsw0)) (by decide) g44) (xKv hq (fun h45 hq e47 => ?_) (fun _ _ q _ => q))
      replace hq := hq e47
      have t48 : tg h38 x0 = 13 := by rw [e40]; exact tg_nO_ne e39 f41 t12 (by decide)
      have t49 : tg h45 x0 = 13 := e47.tg t48 (by decide)
      obtain ⟨h50, e51⟩ : ∃ y, y = sR h45 x0 3138 a37 := ⟨_, rfl⟩
      replace hq := hq h50 e51
      refine x_putR fdX12_757 xty_O dX12_constant_103 t49 (Or.inl (by rw [t49]; rfl)) rfl e51 ?_
      refine x_aload_n 1 dX12_constant_106 rfl ?_
      have t52 : tg h50 x0 = 13 := by rw [e51]; exact t49
      refine x_get (v := rv (fR h50 x0 3138)) fdX12_757 dX12_constant_107 t52 rfl ?_
      refine x_aload_n 1 dX12_constant_110 rfl ?_
      refine x_get (v := rv (fR h50 x0 3085)) fdX12_35 dX12_constant_111 t52 rfl ?_
      refine x_iload_n 0 dX12_constant_114 rfl ?_
      obtain ⟨g53, hq⟩ := hq
      obtain ⟨i54, hq⟩ := hq
      refine x_iald 0 (Or.inl rfl) g53 i54 dX12_constant_115 ?_
      obtain ⟨g55, hq⟩ := hq
      obtain ⟨h56, e57⟩ : ∃ y, y = sI h50 (fR h50 x0 3138) 3330 (aI h50 (fR h50 x0 3085) (Int32.toNatClampNeg (aI h (fR h x0 3106) (Int32.toNatClampNeg x1)))) := ⟨_, rfl⟩
      replace hq := hq h56 e57
      refine x_putI fdX12_595 xty_I1 dX12_constant_116 g55 (Or.inl (by rw [g55]; rfl)) xnI rfl e57 ?_
      refine x_aload_n 1 dX12_constant_119 rfl ?_
      refine x_iload_n 0 dX12_constant_120 rfl ?_
      have t58 : tg h56 x0 = 13 := by rw [e57]; exact t52
      obtain ⟨h59, e60⟩ : ∃ y, y = sI h56 x0 3141 (aI h (fR h x0 3106) (Int32.toNatClampNeg x1)) := ⟨_, rfl⟩
      replace hq := hq h59 e60
      refine x_putI fdX12_767 xty_I1 dX12_constant_121 t58 (Or.inl (by rw [t58]; rfl)) xnI rfl e60 ?_
      refine x_goto (tgt := 209) dX12_constant_124 (by decide) ?_
      refine xP.pick (lv' := [(0, rv x0), (1, .int x1)]) [1, 2] rfl ?_
      exact uX12_constant_209 hq
    · replace hq := hq.2 c34
      refine x_aload_n 1 dX12_constant_66 rfl ?_
      refine x_aload_n 1 dX12_constant_67 rfl ?_
      refine x_get (v := rv (fR h10 x0 3118)) fdX12_119 dX12_constant_68 t12 rfl ?_
      obtain ⟨h61, e62⟩ : ∃ y, y = sR h10 x0 3138 (fR h10 x0 3118) := ⟨_, rfl⟩
      replace hq := hq h61 e62
      refine x_putR fdX12_757 xty_O dX12_constant_71 t12 (Or.inl (by rw [t12]; rfl)) rfl e62 ?_
      refine x_aload_n 1 dX12_constant_74 rfl ?_
      refine x_aload_n 1 dX12_constant_75 rfl ?_
      have t63 : tg h61 x0 = 13 := by rw [e62]; exact t12
      refine x_get (v := rv (fR h61 x0 3088)) fdX12_42 dX12_constant_76 t63 rfl ?_
      refine x_aload_n 1 dX12_constant_79 rfl ?_
      refine x_get (v := rv (fR h61 x0 3084)) fdX12_32 dX12_constant_80 t63 rfl ?_
      refine x_iload_n 0 dX12_constant_83 rfl ?_
      obtain ⟨g64, hq⟩ := hq
      obtain ⟨i65, hq⟩ := hq
      refine x_iald 0 (Or.inl rfl) g64 i65 dX12_constant_84 ?_
      obtain ⟨g66, hq⟩ := hq
      obtain ⟨i67, hq⟩ := hq
      refine x_bald g66 i67 dX12_constant_85 ?_
      refine x_i2l dX12_constant_86 ?_
      obtain ⟨h68, e69⟩ : ∃ y, y = sJ h61 x0 3139 (Int32.toInt64 (aI h61 (fR h61 x0 3088) (Int32.toNatClampNeg (aI h61 (fR h61 x0 3084) (Int32.toNatClampNeg (aI h (fR h x0 3106) (Int32.toNatClampNeg x1))))))) := ⟨_, rfl⟩
      replace hq := hq h68 e69
      refine x_putJ fdX12_760 dX12_constant_87 t63 (Or.inl (by rw [t63]; rfl)) rfl e69 ?_
      refine x_goto (tgt := 209) dX12_constant_90 (by decide) ?_
      refine xP.pick (lv' := [(0, rv x0), (1, .int x1)]) [1, 2] rfl ?_
      exact uX12_constant_209 hq
  replace hq := hq.2
  replace hq := hq c15 c23 c31
  have nc15 := lv_neT c15 (show (41 : Int32).toInt = 41 from by decide)
  have nc23 := lv_neT c23 (show (42 : Int32).toInt = 42 from by decide)
  have nc31 := lv_neT c31 (show (43 : Int32).toInt = 43 from by decide)
  refine x_tout (tgt := 170) dX12_constant_28 (by omega) (by decide) ?_
  refine x_aload_n 1 dX12_constant_170 rfl ?_
  refine x_iload_n 0 dX12_constant_171 rfl ?_
  refine x_iconst (v := 1) dX12_constant_172 (by decide) ?_
  obtain ⟨g70, g71, hq⟩ := hq
  refine x_callV (Yc := YX12_findOf) (as := [.int (aI h (fR h x0 3106) (Int32.toNatClampNeg x1)), .int 1]) (st := []) q4157 mvX12_findOf t12 rfl dX12_constant_173 (xle (xal1 (rv_cat _) (xal1 rfl (xal1 rfl xal0))) (by decide)) (xfr g70) (xlo xsw0 (by decide) g71) (xKr hq (fun x73 h72 hq e74 => ?_) (fun _ _ q _ => q))
  replace hq := hq e74
  refine x_astore_n (lv' := [(3, rv x73), (2, .int (aI h (fR h x0 3106) (Int32.toNatClampNeg x1))), (0, rv x0), (1, .int x1)]) dX12_constant_176 (by decide) rfl ?_
  refine x_aload_n 2 dX12_constant_177 rfl ?_
  refine x_aload_n 0 dX12_constant_178 rfl ?_
  obtain ⟨g75, hq⟩ := hq
  refine x_get (v := rv (fR h72 x73 5890)) fdX12_612 dX12_constant_179 g75 rfl ?_
  have t76 : tg h72 x0 = 13 := e74.tg t12 (by decide)
  obtain ⟨h77, e78⟩ : ∃ y, y = sR h72 x0 3138 (fR h72 x73 5890) := ⟨_, rfl⟩
  replace hq := hq h77 e78
  refine x_putR fdX12_757 xty_O dX12_constant_182 t76 (Or.inl (by rw [t76]; rfl)) rfl e78 ?_
  refine x_aload_n 2 dX12_constant_185 rfl ?_
  refine x_aload_n 0 dX12_constant_186 rfl ?_
  have t79 : tg h77 x73 = 24 := by rw [e78]; exact g75
  refine x_get (v := .long (fJ h77 x73 5891)) fdX12_624 dX12_constant_187 t79 rfl ?_
  have t80 : tg h77 x0 = 13 := by rw [e78]; exact t76
  obtain ⟨h81, e82⟩ : ∃ y, y = sJ h77 x0 3139 (fJ h77 x73 5891) := ⟨_, rfl⟩
  replace hq := hq h81 e82
  refine x_putJ fdX12_760 dX12_constant_190 t80 (Or.inl (by rw [t80]; rfl)) rfl e82 ?_
  refine x_aload_n 2 dX12_constant_193 rfl ?_
  refine x_aload_n 0 dX12_constant_194 rfl ?_
  have t83 : tg h81 x73 = 24 := by rw [e82]; exact t79
  refine x_get (v := .double (fD h81 x73 5892)) fdX12_770 dX12_constant_195 t83 rfl ?_
  have t84 : tg h81 x0 = 13 := by rw [e82]; exact t80
  obtain ⟨h85, e86⟩ : ∃ y, y = sD h81 x0 3140 (fD h81 x73 5892) := ⟨_, rfl⟩
  replace hq := hq h85 e86
  refine x_putD fdX12_763 dX12_constant_198 t84 (Or.inl (by rw [t84]; rfl)) rfl e86 ?_
  refine x_aload_n 2 dX12_constant_201 rfl ?_
  refine x_aload_n 0 dX12_constant_202 rfl ?_
  have t87 : tg h85 x73 = 24 := by rw [e86]; exact t83
  refine x_get (v := .int (fI h85 x73 5904)) fdX12_772 dX12_constant_203 t87 rfl ?_
  have t88 : tg h85 x0 = 13 := by rw [e86]; exact t84
  obtain ⟨h89, e90⟩ : ∃ y, y = sI h85 x0 3141 (fI h85 x73 5904) := ⟨_, rfl⟩
  replace hq := hq h89 e90
  refine x_putI fdX12_767 xty_I1 dX12_constant_206 t88 (Or.inl (by rw [t88]; rfl)) xnI rfl e90 ?_
  refine xP.pick (lv' := [(0, rv x0), (1, .int x1)]) [2, 3] rfl ?_
  exact uX12_constant_209 hq
theorem rX12_constant {G : xG} {fr lo : Nat} {x0 : Nat} {x1 : Int32} {h : xH} {Q : Outcome → xH → Prop} (hq : bX12_constant G fr lo x0 x1 h Q) : xR G YX12_constant fr lo [rv x0, .int x1] h Q := by
  show xP _ _ _ _ _ (lv_args 0 _) _ _ _
  rw [show lv_args 0 [rv x0, .int x1] = [(0, rv x0), (1, .int x1)] from (xla1 (rv_cat _) (xla1 rfl xla0))]
  exact uX12_constant hq
set_option maxRecDepth 100000 in
theorem dX12_findOf_0 : decode cX12_findOf 0 = .ok (.aload_n 0, 1) := by decide +kernel
set_option maxRecDepth 100000 in
theorem dX12_findOf_1 : decode cX12_findOf 1 = .ok (.iload_n 1, 1) := by decide +kernel
set_option maxRecDepth 100000 in
theorem dX12_findOf_2 : decode cX12_findOf 2 = .ok (.invokevirtual 573, 3) := by decide +kernel
set_option maxRecDepth 100000 in
theorem dX12_findOf_5 : decode cX12_findOf 5 = .ok (.astore_n 3, 1) := by decide +kernel
set_option maxRecDepth 100000 in
theorem dX12_findOf_6 : decode cX12_findOf 6 = .ok (.aload_n 3, 1) := by decide +kernel
set_option maxRecDepth 100000 in
theorem dX12_findOf_7 : decode cX12_findOf 7 = .ok (.getfield 577, 3) := by decide +kernel
set_option maxRecDepth 100000 in
theorem dX12_findOf_10 : decode cX12_findOf 10 = .ok (.iload_n 2, 1) := by decide +kernel
set_option maxRecDepth 100000 in
theorem dX12_findOf_11 : decode cX12_findOf 11 = .ok (.if_icmp .eq 10, 3) := by decide +kernel
set_option maxRecDepth 100000 in
theorem dX12_findOf_14 : decode cX12_findOf 14 = .ok (.aload_n 0, 1) := by decide +kernel
set_option maxRecDepth 100000 in
theorem dX12_findOf_15 : decode cX12_findOf 15 = .ok (.bipush 6, 2) := by decide +kernel
set_option maxRecDepth 100000 in
theorem dX12_findOf_17 : decode cX12_findOf 17 = .ok (.iload_n 1, 1) := by decide +kernel
set_option maxRecDepth 100000 in
theorem dX12_findOf_18 : decode cX12_findOf 18 = .ok (.invokevirtual 570, 3) := by decide +kernel
set_option maxRecDepth 100000 in
theorem dX12_findOf_21 : decode cX12_findOf 21 = .ok (.aload_n 3, 1) := by decide +kernel
set_option maxRecDepth 100000 in
theorem dX12_findOf_22 : decode cX12_findOf 22 = .ok (.areturn, 1) := by decide +kernel
set_option maxRecDepth 100000 in
def bX12_findOf_21 (G : xG) (fr lo : Nat) (x3 : Nat) (h : xH) (Q : Outcome → xH → Prop) : Prop := Q (.returned (some (rv x3))) h
set_option maxRecDepth 100000 in
theorem uX12_findOf_21 {G : xG} {fr lo : Nat} {x3 : Nat} {h : xH} {Q : Outcome → xH → Prop} (hq : bX12_findOf_21 G fr lo x3 h Q) : xP G YX12_findOf fr lo 21 [(3, rv x3)] [] h Q := by
  unfold bX12_findOf_21 at hq
  refine x_aload_n 0 dX12_findOf_21 rfl ?_
  exact x_aret rfl xty_O dX12_findOf_22 hq
set_option maxRecDepth 100000 in
def bX12_findOf (G : xG) (fr lo : Nat) (x0 : Nat) (x1 : Int32) (x2 : Int32) (h : xH) (Q : Outcome → xH → Prop) : Prop := tg h x0 = 13 ∧ 1 ≤ fr ∧ 15 ≤ lo ∧ xRr G YX12_find (fr - 1) (lo - 15) [rv x0, .int x1] h (fun x5 h4 => xext h h4 → tg h4 x5 = 24 ∧ (((fI h4 x5 5888) = x2 → bX12_findOf_21 G fr lo x5 h4 Q) ∧ (¬ (fI h4 x5 5888) = x2 → 1 ≤ fr ∧ 14 ≤ lo ∧ xRv G YX12_refuse (fr - 1) (lo - 14) [rv x0, .int 6, .int x1] h4 (fun h12 => xext h4 h12 → bX12_findOf_21 G fr lo x5 h12 Q) (fun r h2 => Q (.threw r) h2)))) (fun r h2 => Q (.threw r) h2)
set_option maxRecDepth 100000 in
theorem uX12_findOf {G : xG} {fr lo : Nat} {x0 : Nat} {x1 : Int32} {x2 : Int32} {h : xH} {Q : Outcome → xH → Prop} (hq : bX12_findOf G fr lo x0 x1 x2 h Q) : xP G YX12_findOf fr lo 0 [(0, rv x0), (1, .int x1), (2, .int x2)] [] h Q := by
  unfold bX12_findOf at hq
  refine x_aload_n 0 dX12_findOf_0 rfl ?_
  refine x_iload_n 1 dX12_findOf_1 rfl ?_
  obtain ⟨g1, hq⟩ := hq
  obtain ⟨g2, g3, hq⟩ := hq
  refine x_callV (Yc := YX12_find) (as := [.int x1]) (st := []) q4161 mvX12_find g1 rfl dX12_findOf_2 (xle (xal1 (rv_cat _) (xal1 rfl xal0)) (by decide)) (xfr g2) (xlo xsw0 (by decide) g3) (xKr hq (fun x5 h4 hq e6 => ?_) (fun _ _ q _ => q))
  replace hq := hq e6
  refine x_astore_n (lv' := [(3, rv x5), (0, rv x0), (1, .int x1), (2, .int x2)]) dX12_findOf_5 (by decide) rfl ?_
  refine x_aload_n 0 dX12_findOf_6 rfl ?_
  obtain ⟨g7, hq⟩ := hq
  refine x_get (v := .int (fI h4 x5 5888)) fdX12_577 dX12_findOf_7 g7 rfl ?_
  refine x_iload_n 3 dX12_findOf_10 rfl ?_
  refine x_icmp_eq (tgt := 21) dX12_findOf_11 (by decide) (fun c8 => ?_) (fun c8 => ?_)
  · replace hq := hq.1 c8
    refine xP.pick (lv' := [(3, rv x5)]) [0] rfl ?_
    exact uX12_findOf_21 hq
  · replace hq := hq.2 c8
    refine x_aload_n 1 dX12_findOf_14 rfl ?_
    refine x_bipush (v := 6) dX12_findOf_15 (by decide) ?_
    refine x_iload_n 2 dX12_findOf_17 rfl ?_
    have t9 : tg h4 x0 = 13 := e6.tg g1 (by decide)
    obtain ⟨g10, g11, hq⟩ := hq
    refine x_callV (Yc := YX12_refuse) (as := [.int 6, .int x1]) (st := []) q4095 mvX12_refuse t9 rfl dX12_findOf_18 (xle (xal1 (rv_cat _) (xal1 rfl (xal1 rfl xal0))) (by decide)) (xfr g10) (xlo xsw0 (by decide) g11) (xKv hq (fun h12 hq e14 => ?_) (fun _ _ q _ => q))
    replace hq := hq e14
    refine xP.pick (lv' := [(3, rv x5)]) [0] rfl ?_
    exact uX12_findOf_21 hq
theorem rX12_findOf {G : xG} {fr lo : Nat} {x0 : Nat} {x1 : Int32} {x2 : Int32} {h : xH} {Q : Outcome → xH → Prop} (hq : bX12_findOf G fr lo x0 x1 x2 h Q) : xR G YX12_findOf fr lo [rv x0, .int x1, .int x2] h Q := by
  show xP _ _ _ _ _ (lv_args 0 _) _ _ _
  rw [show lv_args 0 [rv x0, .int x1, .int x2] = [(0, rv x0), (1, .int x1), (2, .int x2)] from (xla1 (rv_cat _) (xla1 rfl (xla1 rfl xla0)))]
  exact uX12_findOf hq
set_option maxRecDepth 100000 in
theorem dX12_find_0 : decode cX12_find 0 = .ok (.aload_n 0, 1) := by decide +kernel
set_option maxRecDepth 100000 in
theorem dX12_find_1 : decode cX12_find 1 = .ok (.iconst (-1), 1) := by decide +kernel
set_option maxRecDepth 100000 in
theorem dX12_find_2 : decode cX12_find 2 = .ok (.putfield 563, 3) := by decide +kernel
set_option maxRecDepth 100000 in
theorem dX12_find_5 : decode cX12_find 5 = .ok (.aload_n 0, 1) := by decide +kernel
set_option maxRecDepth 100000 in
theorem dX12_find_6 : decode cX12_find 6 = .ok (.getfield 134, 3) := by decide +kernel
set_option maxRecDepth 100000 in
theorem dX12_find_9 : decode cX12_find 9 = .ok (.invokevirtual 554, 3) := by decide +kernel
set_option maxRecDepth 100000 in
theorem dX12_find_12 : decode cX12_find 12 = .ok (.iconst 1, 1) := by decide +kernel
set_option maxRecDepth 100000 in
theorem dX12_find_13 : decode cX12_find 13 = .ok (.isub, 1) := by decide +kernel
set_option maxRecDepth 100000 in
theorem dX12_find_14 : decode cX12_find 14 = .ok (.istore_n 2, 1) := by decide +kernel
set_option maxRecDepth 100000 in
theorem dX12_find_15 : decode cX12_find 15 = .ok (.iload_n 2, 1) := by decide +kernel
set_option maxRecDepth 100000 in
theorem dX12_find_16 : decode cX12_find 16 = .ok (.ifCond .lt 50, 3) := by decide +kernel
set_option maxRecDepth 100000 in
theorem dX12_find_19 : decode cX12_find 19 = .ok (.aload_n 0, 1) := by decide +kernel
set_option maxRecDepth 100000 in
theorem dX12_find_20 : decode cX12_find 20 = .ok (.aload_n 0, 1) := by decide +kernel
set_option maxRecDepth 100000 in
theorem dX12_find_21 : decode cX12_find 21 = .ok (.getfield 134, 3) := by decide +kernel
set_option maxRecDepth 100000 in
theorem dX12_find_24 : decode cX12_find 24 = .ok (.iload_n 2, 1) := by decide +kernel
set_option maxRecDepth 100000 in
theorem dX12_find_25 : decode cX12_find 25 = .ok (.invokevirtual 556, 3) := by decide +kernel
set_option maxRecDepth 100000 in
theorem dX12_find_28 : decode cX12_find 28 = .ok (.checkcast 131, 3) := by decide +kernel
set_option maxRecDepth 100000 in
theorem dX12_find_31 : decode cX12_find 31 = .ok (.aload_n 0, 1) := by decide +kernel
set_option maxRecDepth 100000 in
theorem dX12_find_32 : decode cX12_find 32 = .ok (.getfield 32, 3) := by decide +kernel
set_option maxRecDepth 100000 in
theorem dX12_find_35 : decode cX12_find 35 = .ok (.iload_n 1, 1) := by decide +kernel
set_option maxRecDepth 100000 in
theorem dX12_find_36 : decode cX12_find 36 = .ok (.iaload, 1) := by decide +kernel
set_option maxRecDepth 100000 in
theorem dX12_find_37 : decode cX12_find 37 = .ok (.invokevirtual 566, 3) := by decide +kernel
set_option maxRecDepth 100000 in
theorem dX12_find_40 : decode cX12_find 40 = .ok (.astore_n 3, 1) := by decide +kernel
set_option maxRecDepth 100000 in
theorem dX12_find_41 : decode cX12_find 41 = .ok (.aload_n 3, 1) := by decide +kernel
set_option maxRecDepth 100000 in
theorem dX12_find_42 : decode cX12_find 42 = .ok (.ifnonnull 6, 3) := by decide +kernel
set_option maxRecDepth 100000 in
theorem dX12_find_45 : decode cX12_find 45 = .ok (.goto 15, 3) := by decide +kernel
set_option maxRecDepth 100000 in
theorem dX12_find_48 : decode cX12_find 48 = .ok (.aload_n 0, 1) := by decide +kernel
set_option maxRecDepth 100000 in
theorem dX12_find_49 : decode cX12_find 49 = .ok (.aload_n 0, 1) := by decide +kernel
set_option maxRecDepth 100000 in
theorem dX12_find_50 : decode cX12_find 50 = .ok (.getfield 138, 3) := by decide +kernel
set_option maxRecDepth 100000 in
theorem dX12_find_53 : decode cX12_find 53 = .ok (.iload_n 2, 1) := by decide +kernel
set_option maxRecDepth 100000 in
theorem dX12_find_54 : decode cX12_find 54 = .ok (.iaload, 1) := by decide +kernel
set_option maxRecDepth 100000 in
theorem dX12_find_55 : decode cX12_find 55 = .ok (.putfield 563, 3) := by decide +kernel
set_option maxRecDepth 100000 in
theorem dX12_find_58 : decode cX12_find 58 = .ok (.aload_n 3, 1) := by decide +kernel
set_option maxRecDepth 100000 in
theorem dX12_find_59 : decode cX12_find 59 = .ok (.areturn, 1) := by decide +kernel
set_option maxRecDepth 100000 in
theorem dX12_find_60 : decode cX12_find 60 = .ok (.iinc 2 (-1), 3) := by decide +kernel
set_option maxRecDepth 100000 in
theorem dX12_find_63 : decode cX12_find 63 = .ok (.goto (-48), 3) := by decide +kernel
set_option maxRecDepth 100000 in
theorem dX12_find_66 : decode cX12_find 66 = .ok (.aload_n 0, 1) := by decide +kernel
set_option maxRecDepth 100000 in
theorem dX12_find_67 : decode cX12_find 67 = .ok (.iconst 4, 1) := by decide +kernel
set_option maxRecDepth 100000 in
theorem dX12_find_68 : decode cX12_find 68 = .ok (.iload_n 1, 1) := by decide +kernel
set_option maxRecDepth 100000 in
theorem dX12_find_69 : decode cX12_find 69 = .ok (.invokevirtual 570, 3) := by decide +kernel
set_option maxRecDepth 100000 in
theorem dX12_find_72 : decode cX12_find 72 = .ok (.aconst_null, 1) := by decide +kernel
set_option maxRecDepth 100000 in
theorem dX12_find_73 : decode cX12_find 73 = .ok (.areturn, 1) := by decide +kernel
def lX12_find_15 (G : xG) (fr lo : Nat) (x0 : Nat) (x1 : Int32) (x2 : Int32) (h : xH) (Q : Outcome → xH → Prop) : Prop := xP G YX12_find fr lo 15 [(0, rv x0), (1, .int x1), (2, .int x2)] [] h Q
set_option maxRecDepth 100000 in
def bX12_find_15 (G : xG) (fr lo : Nat) (x0 : Nat) (x1 : Int32) (x2 : Int32) (h : xH) (Q : Outcome → xH → Prop) : Prop := ((x2 < 0 → tg h x0 = 13 ∧ 1 ≤ fr ∧ 14 ≤ lo ∧ xRv G YX12_refuse (fr - 1) (lo - 14) [rv x0, .int 4, .int x1] h (fun h5 => xext h h5 → Q (.returned (some (rv 0))) h5) (fun r h2 => Q (.threw r) h2)) ∧ (¬ x2 < 0 → tg h x0 = 13 ∧ tg h (fR h x0 3122) = 29 ∧ 1 ≤ fr ∧ 14 ≤ lo ∧ xRr G YJ2_get (fr - 1) (lo - 14) [rv (fR h x0 3122), .int x2] h (fun x13 h12 => xext h h12 → tg h12 x13 = 29 ∧ tg h12 (fR h12 x0 3084) = 100 ∧ vp_in x1 (ln h12 (fR h12 x0 3084)) ∧ 1 ≤ fr ∧ 15 ≤ lo ∧ xRr G YX12_inRegion (fr - 1) (lo - 15) [rv x0, rv x13, .int (aI h12 (fR h12 x0 3084) (Int32.toNatClampNeg x1))] h12 (fun x22 h21 => xext h12 h21 → ((¬ x22 = 0 → tg h21 (fR h21 x0 3123) = 100 ∧ vp_in x2 (ln h21 (fR h21 x0 3123)) ∧ (∀ h28 : xH, h28 = sI h21 x0 3125 (aI h21 (fR h21 x0 3123) (Int32.toNatClampNeg x2)) → Q (.returned (some (rv x22))) h28)) ∧ (x22 = 0 → lX12_find_15 G fr lo x0 x1 (x2 + (-1)) h21 Q))) (fun r h2 => Q (.threw r) h2)) (fun r h2 => Q (.threw r) h2)))
set_option maxRecDepth 100000 in
theorem uX12_find_15 {G : xG} {fr lo : Nat} {x0 : Nat} {x1 : Int32} {x2 : Int32} {h : xH} {Q : Outcome → xH → Prop} (hq : bX12_find_15 G fr lo x0 x1 x2 h Q) : xP G YX12_find fr lo 15 [(0, rv x0), (1, .int x1), (2, .int x2)] [] h Q := by
  unfold bX12_find_15 at hq
  refine x_iload_n 2 dX12_find_15 rfl ?_
  refine x_if_lt (tgt := 66) dX12_find_16 (by decide) (fun c1 => ?_) (fun c1 => ?_)
  · replace hq := hq.1 c1
    refine x_aload_n 0 dX12_find_66 rfl ?_
    refine x_iconst (v := 4) dX12_find_67 (by decide) ?_
    refine x_iload_n 1 dX12_find_68 rfl ?_
    obtain ⟨g2, hq⟩ := hq
    obtain ⟨g3, g4, hq⟩ := hq
    refine x_callV (Yc := YX12_refuse) (as := [.int 4, .int x1]) (st := []) q4095 mvX12_refuse g2 rfl dX12_find_69 (xle (xal1 (rv_cat _) (xal1 rfl (xal1 rfl xal0))) (by decide)) (xfr g3) (xlo xsw0 (by decide) g4) (xKv hq (fun h5 hq e7 => ?_) (fun _ _ q _ => q))
    replace hq := hq e7
    refine x_null dX12_find_72 ?_
    exact x_aret rfl xty_O dX12_find_73 hq
  · replace hq := hq.2 c1
    refine x_aload_n 0 dX12_find_19 rfl ?_
    refine x_aload_n 0 dX12_find_20 rfl ?_
    obtain ⟨g8, hq⟩ := hq
    refine x_get (v := rv (fR h x0 3122)) fdX12_134 dX12_find_21 g8 rfl ?_
    refine x_iload_n 2 dX12_find_24 rfl ?_
    obtain ⟨g9, hq⟩ := hq
    obtain ⟨g10, g11, hq⟩ := hq
    refine x_callV (Yc := YJ2_get) (as := [.int x2]) (st := [rv x0]) q4109 mvJ2_get g9 rfl dX12_find_25 (xle (xal1 (rv_cat _) (xal1 rfl xal0)) (by decide)) (xfr g10) (xlo (xsw1 (rv_cat _) xsw0) (by decide) g11) (xKr hq (fun x13 h12 hq e14 => ?_) (fun _ _ q _ => q))
    replace hq := hq e14
    obtain ⟨g15, hq⟩ := hq
    refine x_cast (ci := 28) (by decide) rfl q3245 g15 dX12_find_28 ?_
    refine x_aload_n 0 dX12_find_31 rfl ?_
    have t16 : tg h12 x0 = 13 := e14.tg g8 (by decide)
    refine x_get (v := rv (fR h12 x0 3084)) fdX12_32 dX12_find_32 t16 rfl ?_
    refine x_iload_n 1 dX12_find_35 rfl ?_
    obtain ⟨g17, hq⟩ := hq
    obtain ⟨i18, hq⟩ := hq
    refine x_iald 0 (Or.inl rfl) g17 i18 dX12_find_36 ?_
    obtain ⟨g19, g20, hq⟩ := hq
    refine x_callV (Yc := YX12_inRegion) (as := [rv x13, .int (aI h12 (fR h12 x0 3084) (Int32.toNatClampNeg x1))]) (st := []) q4114 mvX12_inRegion t16 rfl dX12_find_37 (xle (xal1 (rv_cat _) (xal1 (rv_cat _) (xal1 rfl xal0))) (by decide)) (xfr g19) (xlo xsw0 (by decide) g20) (xKr hq (fun x22 h21 hq e23 => ?_) (fun _ _ q _ => q))
    replace hq := hq e23
    refine x_astore_n (lv' := [(3, rv x22), (0, rv x0), (1, .int x1), (2, .int x2)]) dX12_find_40 (by decide) rfl ?_
    refine x_aload_n 0 dX12_find_41 rfl ?_
    refine x_ifnonnull (tgt := 48) dX12_find_42 (by decide) (fun c24 => ?_) (fun c24 => ?_)
    · replace hq := hq.1 c24
      refine x_aload_n 1 dX12_find_48 rfl ?_
      refine x_aload_n 1 dX12_find_49 rfl ?_
      have t25 : tg h21 x0 = 13 := e23.tg t16 (by decide)
      refine x_get (v := rv (fR h21 x0 3123)) fdX12_138 dX12_find_50 t25 rfl ?_
      refine x_iload_n 3 dX12_find_53 rfl ?_
      obtain ⟨g26, hq⟩ := hq
      obtain ⟨i27, hq⟩ := hq
      refine x_iald 0 (Or.inl rfl) g26 i27 dX12_find_54 ?_
      obtain ⟨h28, e29⟩ : ∃ y, y = sI h21 x0 3125 (aI h21 (fR h21 x0 3123) (Int32.toNatClampNeg x2)) := ⟨_, rfl⟩
      replace hq := hq h28 e29
      refine x_putI fdX12_563 xty_I1 dX12_find_55 t25 (Or.inl (by rw [t25]; rfl)) xnI rfl e29 ?_
      refine x_aload_n 0 dX12_find_58 rfl ?_
      exact x_aret rfl xty_O dX12_find_59 hq
    · replace hq := hq.2 c24
      refine x_goto (tgt := 60) dX12_find_45 (by decide) ?_
      refine x_iinc (lv' := [(2, .int (x2 + (-1))), (3, rv x22), (0, rv x0), (1, .int x1)]) 3 dX12_find_60 rfl (by decide) rfl ?_
      refine x_goto (tgt := 15) dX12_find_63 (by decide) ?_
      refine xP.pick (lv' := [(0, rv x0), (1, .int x1), (2, .int (x2 + (-1)))]) [2, 3, 0] rfl ?_
      exact hq
set_option maxRecDepth 100000 in
def bX12_find (G : xG) (fr lo : Nat) (x0 : Nat) (x1 : Int32) (h : xH) (Q : Outcome → xH → Prop) : Prop := tg h x0 = 13 ∧ (∀ h2 : xH, h2 = sI h x0 3125 (-1) → tg h2 (fR h2 x0 3122) = 29 ∧ 1 ≤ fr ∧ 12 ≤ lo ∧ xRi G YJ2_size (fr - 1) (lo - 12) [rv (fR h2 x0 3122)] h2 (fun x9 h8 => xext h2 h8 → lX12_find_15 G fr lo x0 x1 (x9 - 1) h8 Q) (fun r h2 => Q (.threw r) h2))
set_option maxRecDepth 100000 in
theorem uX12_find {G : xG} {fr lo : Nat} {x0 : Nat} {x1 : Int32} {h : xH} {Q : Outcome → xH → Prop} (hq : bX12_find G fr lo x0 x1 h Q) : xP G YX12_find fr lo 0 [(0, rv x0), (1, .int x1)] [] h Q := by
  unfold bX12_find at hq
  refine x_aload_n 0 dX12_find_0 rfl ?_
  refine x_iconst (v := (-1)) dX12_find_1 (by decide) ?_
  obtain ⟨g1, hq⟩ := hq
  obtain ⟨h2, e3⟩ : ∃ y, y = sI h x0 3125 (-1) := ⟨_, rfl⟩
  replace hq := hq h2 e3
  refine x_putI fdX12_563 xty_I1 dX12_find_2 g1 (Or.inl (by rw [g1]; rfl)) xnI rfl e3 ?_
  refine x_aload_n 0 dX12_find_5 rfl ?_
  have t4 : tg h2 x0 = 13 := by rw [e3]; exact g1
  refine x_get (v := rv (fR h2 x0 3122)) fdX12_134 dX12_find_6 t4 rfl ?_
  obtain ⟨g5, hq⟩ := hq
  obtain ⟨g6, g7, hq⟩ := hq
  refine x_callV (Yc := YJ2_size) (as := []) (st := []) q4067 mvJ2_size g5 rfl dX12_find_9 (xle (xal1 (rv_cat _) xal0) (by decide)) (xfr g6) (xlo xsw0 (by decide) g7) (xKi hq (fun x9 h8 hq e10 => ?_) (fun _ _ q _ => q))
  replace hq := hq e10
  refine x_iconst (v := 1) dX12_find_12 (by decide) ?_
  refine x_isub dX12_find_13 ?_
  refine x_istore_n (lv' := [(2, .int (x9 - 1)), (0, rv x0), (1, .int x1)]) dX12_find_14 (by decide) rfl ?_
  refine xP.pick (lv' := [(0, rv x0), (1, .int x1), (2, .int (x9 - 1))]) [1, 2, 0] rfl ?_
  exact hq
theorem rX12_find {G : xG} {fr lo : Nat} {x0 : Nat} {x1 : Int32} {h : xH} {Q : Outcome → xH → Prop} (hq : bX12_find G fr lo x0 x1 h Q) : xR G YX12_find fr lo [rv x0, .int x1] h Q := by
  show xP _ _ _ _ _ (lv_args 0 _) _ _ _
  rw [show lv_args 0 [rv x0, .int x1] = [(0, rv x0), (1, .int x1)] from (xla1 (rv_cat _) (xla1 rfl xla0))]
  exact uX12_find hq
set_option maxRecDepth 100000 in
theorem dX12_typeOf_0 : decode cX12_typeOf 0 = .ok (.aload_n 0, 1) := by decide +kernel
set_option maxRecDepth 100000 in
theorem dX12_typeOf_1 : decode cX12_typeOf 1 = .ok (.getfield 67, 3) := by decide +kernel
set_option maxRecDepth 100000 in
theorem dX12_typeOf_4 : decode cX12_typeOf 4 = .ok (.iload_n 1, 1) := by decide +kernel
set_option maxRecDepth 100000 in
theorem dX12_typeOf_5 : decode cX12_typeOf 5 = .ok (.iaload, 1) := by decide +kernel
set_option maxRecDepth 100000 in
theorem dX12_typeOf_6 : decode cX12_typeOf 6 = .ok (.tableswitch 368 10 17 #[46, 223, 229, 293, 368, 131, 217, 116], 46) := by decide +kernel
set_option maxRecDepth 100000 in
theorem dX12_typeOf_52 : decode cX12_typeOf 52 = .ok (.new 94, 3) := by decide +kernel
set_option maxRecDepth 100000 in
theorem dX12_typeOf_55 : decode cX12_typeOf 55 = .ok (.dup, 1) := by decide +kernel
set_option maxRecDepth 100000 in
theorem dX12_typeOf_56 : decode cX12_typeOf 56 = .ok (.bipush 11, 2) := by decide +kernel
set_option maxRecDepth 100000 in
theorem dX12_typeOf_58 : decode cX12_typeOf 58 = .ok (.invokespecial 106, 3) := by decide +kernel
set_option maxRecDepth 100000 in
theorem dX12_typeOf_61 : decode cX12_typeOf 61 = .ok (.astore_n 2, 1) := by decide +kernel
set_option maxRecDepth 100000 in
theorem dX12_typeOf_62 : decode cX12_typeOf 62 = .ok (.aload_n 0, 1) := by decide +kernel
set_option maxRecDepth 100000 in
theorem dX12_typeOf_63 : decode cX12_typeOf 63 = .ok (.getfield 773, 3) := by decide +kernel
set_option maxRecDepth 100000 in
theorem dX12_typeOf_66 : decode cX12_typeOf 66 = .ok (.ifCond .eq 38, 3) := by decide +kernel
set_option maxRecDepth 100000 in
theorem dX12_typeOf_69 : decode cX12_typeOf 69 = .ok (.aload_n 0, 1) := by decide +kernel
set_option maxRecDepth 100000 in
theorem dX12_typeOf_70 : decode cX12_typeOf 70 = .ok (.getfield 153, 3) := by decide +kernel
set_option maxRecDepth 100000 in
theorem dX12_typeOf_73 : decode cX12_typeOf 73 = .ok (.aload_n 0, 1) := by decide +kernel
set_option maxRecDepth 100000 in
theorem dX12_typeOf_74 : decode cX12_typeOf 74 = .ok (.getfield 150, 3) := by decide +kernel
set_option maxRecDepth 100000 in
theorem dX12_typeOf_77 : decode cX12_typeOf 77 = .ok (.invokevirtual 554, 3) := by decide +kernel
set_option maxRecDepth 100000 in
theorem dX12_typeOf_80 : decode cX12_typeOf 80 = .ok (.aload_n 0, 1) := by decide +kernel
set_option maxRecDepth 100000 in
theorem dX12_typeOf_81 : decode cX12_typeOf 81 = .ok (.getfield 70, 3) := by decide +kernel
set_option maxRecDepth 100000 in
theorem dX12_typeOf_84 : decode cX12_typeOf 84 = .ok (.aload_n 0, 1) := by decide +kernel
set_option maxRecDepth 100000 in
theorem dX12_typeOf_85 : decode cX12_typeOf 85 = .ok (.getfield 73, 3) := by decide +kernel
set_option maxRecDepth 100000 in
theorem dX12_typeOf_88 : decode cX12_typeOf 88 = .ok (.iload_n 1, 1) := by decide +kernel
set_option maxRecDepth 100000 in
theorem dX12_typeOf_89 : decode cX12_typeOf 89 = .ok (.iaload, 1) := by decide +kernel
set_option maxRecDepth 100000 in
theorem dX12_typeOf_90 : decode cX12_typeOf 90 = .ok (.iaload, 1) := by decide +kernel
set_option maxRecDepth 100000 in
theorem dX12_typeOf_91 : decode cX12_typeOf 91 = .ok (.iastore, 1) := by decide +kernel
set_option maxRecDepth 100000 in
theorem dX12_typeOf_92 : decode cX12_typeOf 92 = .ok (.aload_n 0, 1) := by decide +kernel
set_option maxRecDepth 100000 in
theorem dX12_typeOf_93 : decode cX12_typeOf 93 = .ok (.getfield 150, 3) := by decide +kernel
set_option maxRecDepth 100000 in
theorem dX12_typeOf_96 : decode cX12_typeOf 96 = .ok (.aload_n 2, 1) := by decide +kernel
set_option maxRecDepth 100000 in
theorem dX12_typeOf_97 : decode cX12_typeOf 97 = .ok (.invokevirtual 579, 3) := by decide +kernel
set_option maxRecDepth 100000 in
theorem dX12_typeOf_100 : decode cX12_typeOf 100 = .ok (.pop, 1) := by decide +kernel
set_option maxRecDepth 100000 in
theorem dX12_typeOf_101 : decode cX12_typeOf 101 = .ok (.goto 19, 3) := by decide +kernel
set_option maxRecDepth 100000 in
theorem dX12_typeOf_104 : decode cX12_typeOf 104 = .ok (.aload_n 0, 1) := by decide +kernel
set_option maxRecDepth 100000 in
theorem dX12_typeOf_105 : decode cX12_typeOf 105 = .ok (.aload_n 2, 1) := by decide +kernel
set_option maxRecDepth 100000 in
theorem dX12_typeOf_106 : decode cX12_typeOf 106 = .ok (.aload_n 0, 1) := by decide +kernel
set_option maxRecDepth 100000 in
theorem dX12_typeOf_107 : decode cX12_typeOf 107 = .ok (.getfield 70, 3) := by decide +kernel
set_option maxRecDepth 100000 in
theorem dX12_typeOf_110 : decode cX12_typeOf 110 = .ok (.aload_n 0, 1) := by decide +kernel
set_option maxRecDepth 100000 in
theorem dX12_typeOf_111 : decode cX12_typeOf 111 = .ok (.getfield 73, 3) := by decide +kernel
set_option maxRecDepth 100000 in
theorem dX12_typeOf_114 : decode cX12_typeOf 114 = .ok (.iload_n 1, 1) := by decide +kernel
set_option maxRecDepth 100000 in
theorem dX12_typeOf_115 : decode cX12_typeOf 115 = .ok (.iaload, 1) := by decide +kernel
set_option maxRecDepth 100000 in
theorem dX12_typeOf_116 : decode cX12_typeOf 116 = .ok (.iaload, 1) := by decide +kernel
set_option maxRecDepth 100000 in
theorem dX12_typeOf_117 : decode cX12_typeOf 117 = .ok (.invokevirtual 780, 3) := by decide +kernel
set_option maxRecDepth 100000 in
theorem dX12_typeOf_120 : decode cX12_typeOf 120 = .ok (.aload_n 2, 1) := by decide +kernel
set_option maxRecDepth 100000 in
theorem dX12_typeOf_121 : decode cX12_typeOf 121 = .ok (.areturn, 1) := by decide +kernel
set_option maxRecDepth 100000 in
theorem dX12_typeOf_122 : decode cX12_typeOf 122 = .ok (.aload_n 0, 1) := by decide +kernel
set_option maxRecDepth 100000 in
theorem dX12_typeOf_123 : decode cX12_typeOf 123 = .ok (.aload_n 0, 1) := by decide +kernel
set_option maxRecDepth 100000 in
theorem dX12_typeOf_124 : decode cX12_typeOf 124 = .ok (.getfield 70, 3) := by decide +kernel
set_option maxRecDepth 100000 in
theorem dX12_typeOf_127 : decode cX12_typeOf 127 = .ok (.iload_n 1, 1) := by decide +kernel
set_option maxRecDepth 100000 in
theorem dX12_typeOf_128 : decode cX12_typeOf 128 = .ok (.iaload, 1) := by decide +kernel
set_option maxRecDepth 100000 in
theorem dX12_typeOf_129 : decode cX12_typeOf 129 = .ok (.iconst 2, 1) := by decide +kernel
set_option maxRecDepth 100000 in
theorem dX12_typeOf_130 : decode cX12_typeOf 130 = .ok (.invokevirtual 838, 3) := by decide +kernel
set_option maxRecDepth 100000 in
theorem dX12_typeOf_133 : decode cX12_typeOf 133 = .ok (.getfield 612, 3) := by decide +kernel
set_option maxRecDepth 100000 in
theorem dX12_typeOf_136 : decode cX12_typeOf 136 = .ok (.areturn, 1) := by decide +kernel
set_option maxRecDepth 100000 in
theorem dX12_typeOf_137 : decode cX12_typeOf 137 = .ok (.new 94, 3) := by decide +kernel
set_option maxRecDepth 100000 in
theorem dX12_typeOf_140 : decode cX12_typeOf 140 = .ok (.dup, 1) := by decide +kernel
set_option maxRecDepth 100000 in
theorem dX12_typeOf_141 : decode cX12_typeOf 141 = .ok (.iconst 5, 1) := by decide +kernel
set_option maxRecDepth 100000 in
theorem dX12_typeOf_142 : decode cX12_typeOf 142 = .ok (.invokespecial 106, 3) := by decide +kernel
set_option maxRecDepth 100000 in
theorem dX12_typeOf_145 : decode cX12_typeOf 145 = .ok (.astore_n 2, 1) := by decide +kernel
set_option maxRecDepth 100000 in
theorem dX12_typeOf_146 : decode cX12_typeOf 146 = .ok (.aload_n 2, 1) := by decide +kernel
set_option maxRecDepth 100000 in
theorem dX12_typeOf_147 : decode cX12_typeOf 147 = .ok (.iconst (-1), 1) := by decide +kernel
set_option maxRecDepth 100000 in
theorem dX12_typeOf_148 : decode cX12_typeOf 148 = .ok (.putfield 595, 3) := by decide +kernel
set_option maxRecDepth 100000 in
theorem dX12_typeOf_151 : decode cX12_typeOf 151 = .ok (.aload_n 0, 1) := by decide +kernel
set_option maxRecDepth 100000 in
theorem dX12_typeOf_152 : decode cX12_typeOf 152 = .ok (.getfield 73, 3) := by decide +kernel
set_option maxRecDepth 100000 in
theorem dX12_typeOf_155 : decode cX12_typeOf 155 = .ok (.aload_n 0, 1) := by decide +kernel
set_option maxRecDepth 100000 in
theorem dX12_typeOf_156 : decode cX12_typeOf 156 = .ok (.getfield 73, 3) := by decide +kernel
set_option maxRecDepth 100000 in
theorem dX12_typeOf_159 : decode cX12_typeOf 159 = .ok (.iload_n 1, 1) := by decide +kernel
set_option maxRecDepth 100000 in
theorem dX12_typeOf_160 : decode cX12_typeOf 160 = .ok (.iaload, 1) := by decide +kernel
set_option maxRecDepth 100000 in
theorem dX12_typeOf_161 : decode cX12_typeOf 161 = .ok (.iaload, 1) := by decide +kernel
set_option maxRecDepth 100000 in
theorem dX12_typeOf_162 : decode cX12_typeOf 162 = .ok (.istore_n 3, 1) := by decide +kernel
set_option maxRecDepth 100000 in
theorem dX12_typeOf_163 : decode cX12_typeOf 163 = .ok (.iload_n 3, 1) := by decide +kernel
set_option maxRecDepth 100000 in
theorem dX12_typeOf_164 : decode cX12_typeOf 164 = .ok (.iconst (-1), 1) := by decide +kernel
set_option maxRecDepth 100000 in
theorem dX12_typeOf_165 : decode cX12_typeOf 165 = .ok (.if_icmp .eq 56, 3) := by decide +kernel
set_option maxRecDepth 100000 in
theorem dX12_typeOf_168 : decode cX12_typeOf 168 = .ok (.aload_n 0, 1) := by decide +kernel
set_option maxRecDepth 100000 in
theorem dX12_typeOf_169 : decode cX12_typeOf 169 = .ok (.iconst 1, 1) := by decide +kernel
set_option maxRecDepth 100000 in
theorem dX12_typeOf_170 : decode cX12_typeOf 170 = .ok (.aload_n 0, 1) := by decide +kernel
set_option maxRecDepth 100000 in
theorem dX12_typeOf_171 : decode cX12_typeOf 171 = .ok (.getfield 70, 3) := by decide +kernel
set_option maxRecDepth 100000 in
theorem dX12_typeOf_174 : decode cX12_typeOf 174 = .ok (.iload_n 3, 1) := by decide +kernel
set_option maxRecDepth 100000 in
theorem dX12_typeOf_175 : decode cX12_typeOf 175 = .ok (.iaload, 1) := by decide +kernel
set_option maxRecDepth 100000 in
theorem dX12_typeOf_176 : decode cX12_typeOf 176 = .ok (.aload_n 0, 1) := by decide +kernel
set_option maxRecDepth 100000 in
theorem dX12_typeOf_177 : decode cX12_typeOf 177 = .ok (.invokevirtual 694, 3) := by decide +kernel
set_option maxRecDepth 100000 in
theorem dX12_typeOf_180 : decode cX12_typeOf 180 = .ok (.invokevirtual 698, 3) := by decide +kernel
set_option maxRecDepth 100000 in
theorem dX12_typeOf_183 : decode cX12_typeOf 183 = .ok (.astore 4, 2) := by decide +kernel
set_option maxRecDepth 100000 in
theorem dX12_typeOf_185 : decode cX12_typeOf 185 = .ok (.aload_n 2, 1) := by decide +kernel
set_option maxRecDepth 100000 in
theorem dX12_typeOf_186 : decode cX12_typeOf 186 = .ok (.dup, 1) := by decide +kernel
set_option maxRecDepth 100000 in
theorem dX12_typeOf_187 : decode cX12_typeOf 187 = .ok (.getfield 595, 3) := by decide +kernel
set_option maxRecDepth 100000 in
theorem dX12_typeOf_190 : decode cX12_typeOf 190 = .ok (.iconst 1, 1) := by decide +kernel
set_option maxRecDepth 100000 in
theorem dX12_typeOf_191 : decode cX12_typeOf 191 = .ok (.iadd, 1) := by decide +kernel
set_option maxRecDepth 100000 in
theorem dX12_typeOf_192 : decode cX12_typeOf 192 = .ok (.putfield 595, 3) := by decide +kernel
set_option maxRecDepth 100000 in
theorem dX12_typeOf_195 : decode cX12_typeOf 195 = .ok (.aload 4, 2) := by decide +kernel
set_option maxRecDepth 100000 in
theorem dX12_typeOf_197 : decode cX12_typeOf 197 = .ok (.aload_n 2, 1) := by decide +kernel
set_option maxRecDepth 100000 in
theorem dX12_typeOf_198 : decode cX12_typeOf 198 = .ok (.putfield 612, 3) := by decide +kernel
set_option maxRecDepth 100000 in
theorem dX12_typeOf_201 : decode cX12_typeOf 201 = .ok (.aload 4, 2) := by decide +kernel
set_option maxRecDepth 100000 in
theorem dX12_typeOf_203 : decode cX12_typeOf 203 = .ok (.aload_n 2, 1) := by decide +kernel
set_option maxRecDepth 100000 in
theorem dX12_typeOf_204 : decode cX12_typeOf 204 = .ok (.getfield 595, 3) := by decide +kernel
set_option maxRecDepth 100000 in
theorem dX12_typeOf_207 : decode cX12_typeOf 207 = .ok (.i2l, 1) := by decide +kernel
set_option maxRecDepth 100000 in
theorem dX12_typeOf_208 : decode cX12_typeOf 208 = .ok (.putfield 624, 3) := by decide +kernel
set_option maxRecDepth 100000 in
theorem dX12_typeOf_211 : decode cX12_typeOf 211 = .ok (.aload_n 0, 1) := by decide +kernel
set_option maxRecDepth 100000 in
theorem dX12_typeOf_212 : decode cX12_typeOf 212 = .ok (.getfield 79, 3) := by decide +kernel
set_option maxRecDepth 100000 in
theorem dX12_typeOf_215 : decode cX12_typeOf 215 = .ok (.iload_n 3, 1) := by decide +kernel
set_option maxRecDepth 100000 in
theorem dX12_typeOf_216 : decode cX12_typeOf 216 = .ok (.iaload, 1) := by decide +kernel
set_option maxRecDepth 100000 in
theorem dX12_typeOf_217 : decode cX12_typeOf 217 = .ok (.istore_n 3, 1) := by decide +kernel
set_option maxRecDepth 100000 in
theorem dX12_typeOf_218 : decode cX12_typeOf 218 = .ok (.goto (-55), 3) := by decide +kernel
set_option maxRecDepth 100000 in
theorem dX12_typeOf_221 : decode cX12_typeOf 221 = .ok (.aload_n 2, 1) := by decide +kernel
set_option maxRecDepth 100000 in
theorem dX12_typeOf_222 : decode cX12_typeOf 222 = .ok (.areturn, 1) := by decide +kernel
set_option maxRecDepth 100000 in
theorem dX12_typeOf_223 : decode cX12_typeOf 223 = .ok (.aload_n 0, 1) := by decide +kernel
set_option maxRecDepth 100000 in
theorem dX12_typeOf_224 : decode cX12_typeOf 224 = .ok (.iload_n 1, 1) := by decide +kernel
set_option maxRecDepth 100000 in
theorem dX12_typeOf_225 : decode cX12_typeOf 225 = .ok (.invokevirtual 846, 3) := by decide +kernel
set_option maxRecDepth 100000 in
theorem dX12_typeOf_228 : decode cX12_typeOf 228 = .ok (.areturn, 1) := by decide +kernel
set_option maxRecDepth 100000 in
theorem dX12_typeOf_229 : decode cX12_typeOf 229 = .ok (.aload_n 0, 1) := by decide +kernel
set_option maxRecDepth 100000 in
theorem dX12_typeOf_230 : decode cX12_typeOf 230 = .ok (.iload_n 1, 1) := by decide +kernel
set_option maxRecDepth 100000 in
theorem dX12_typeOf_231 : decode cX12_typeOf 231 = .ok (.invokevirtual 849, 3) := by decide +kernel
set_option maxRecDepth 100000 in
theorem dX12_typeOf_234 : decode cX12_typeOf 234 = .ok (.areturn, 1) := by decide +kernel
set_option maxRecDepth 100000 in
theorem dX12_typeOf_235 : decode cX12_typeOf 235 = .ok (.new 94, 3) := by decide +kernel
set_option maxRecDepth 100000 in
theorem dX12_typeOf_238 : decode cX12_typeOf 238 = .ok (.dup, 1) := by decide +kernel
set_option maxRecDepth 100000 in
theorem dX12_typeOf_239 : decode cX12_typeOf 239 = .ok (.bipush 8, 2) := by decide +kernel
set_option maxRecDepth 100000 in
theorem dX12_typeOf_241 : decode cX12_typeOf 241 = .ok (.invokespecial 106, 3) := by decide +kernel
set_option maxRecDepth 100000 in
theorem dX12_typeOf_244 : decode cX12_typeOf 244 = .ok (.astore_n 2, 1) := by decide +kernel
set_option maxRecDepth 100000 in
theorem dX12_typeOf_245 : decode cX12_typeOf 245 = .ok (.aload_n 2, 1) := by decide +kernel
set_option maxRecDepth 100000 in
theorem dX12_typeOf_246 : decode cX12_typeOf 246 = .ok (.lconst 0, 1) := by decide +kernel
set_option maxRecDepth 100000 in
theorem dX12_typeOf_247 : decode cX12_typeOf 247 = .ok (.putfield 603, 3) := by decide +kernel
set_option maxRecDepth 100000 in
theorem dX12_typeOf_250 : decode cX12_typeOf 250 = .ok (.aload_n 2, 1) := by decide +kernel
set_option maxRecDepth 100000 in
theorem dX12_typeOf_251 : decode cX12_typeOf 251 = .ok (.new 131, 3) := by decide +kernel
set_option maxRecDepth 100000 in
theorem dX12_typeOf_254 : decode cX12_typeOf 254 = .ok (.dup, 1) := by decide +kernel
set_option maxRecDepth 100000 in
theorem dX12_typeOf_255 : decode cX12_typeOf 255 = .ok (.invokespecial 133, 3) := by decide +kernel
set_option maxRecDepth 100000 in
theorem dX12_typeOf_258 : decode cX12_typeOf 258 = .ok (.putfield 852, 3) := by decide +kernel
set_option maxRecDepth 100000 in
theorem dX12_typeOf_261 : decode cX12_typeOf 261 = .ok (.aload_n 0, 1) := by decide +kernel
set_option maxRecDepth 100000 in
theorem dX12_typeOf_262 : decode cX12_typeOf 262 = .ok (.aload_n 0, 1) := by decide +kernel
set_option maxRecDepth 100000 in
theorem dX12_typeOf_263 : decode cX12_typeOf 263 = .ok (.getfield 73, 3) := by decide +kernel
set_option maxRecDepth 100000 in
theorem dX12_typeOf_266 : decode cX12_typeOf 266 = .ok (.iload_n 1, 1) := by decide +kernel
set_option maxRecDepth 100000 in
theorem dX12_typeOf_267 : decode cX12_typeOf 267 = .ok (.iaload, 1) := by decide +kernel
set_option maxRecDepth 100000 in
theorem dX12_typeOf_268 : decode cX12_typeOf 268 = .ok (.aload_n 2, 1) := by decide +kernel
set_option maxRecDepth 100000 in
theorem dX12_typeOf_269 : decode cX12_typeOf 269 = .ok (.aconst_null, 1) := by decide +kernel
set_option maxRecDepth 100000 in
theorem dX12_typeOf_270 : decode cX12_typeOf 270 = .ok (.iconst 0, 1) := by decide +kernel
set_option maxRecDepth 100000 in
theorem dX12_typeOf_271 : decode cX12_typeOf 271 = .ok (.invokevirtual 855, 3) := by decide +kernel
set_option maxRecDepth 100000 in
theorem dX12_typeOf_274 : decode cX12_typeOf 274 = .ok (.aload_n 2, 1) := by decide +kernel
set_option maxRecDepth 100000 in
theorem dX12_typeOf_275 : decode cX12_typeOf 275 = .ok (.getfield 603, 3) := by decide +kernel
set_option maxRecDepth 100000 in
theorem dX12_typeOf_278 : decode cX12_typeOf 278 = .ok (.ldc2_w 859, 3) := by decide +kernel
set_option maxRecDepth 100000 in
theorem dX12_typeOf_281 : decode cX12_typeOf 281 = .ok (.lcmp, 1) := by decide +kernel
set_option maxRecDepth 100000 in
theorem dX12_typeOf_282 : decode cX12_typeOf 282 = .ok (.ifCond .le 15, 3) := by decide +kernel
set_option maxRecDepth 100000 in
theorem dX12_typeOf_285 : decode cX12_typeOf 285 = .ok (.aload_n 0, 1) := by decide +kernel
set_option maxRecDepth 100000 in
theorem dX12_typeOf_286 : decode cX12_typeOf 286 = .ok (.bipush 8, 2) := by decide +kernel
set_option maxRecDepth 100000 in
theorem dX12_typeOf_288 : decode cX12_typeOf 288 = .ok (.aload_n 0, 1) := by decide +kernel
set_option maxRecDepth 100000 in
theorem dX12_typeOf_289 : decode cX12_typeOf 289 = .ok (.getfield 70, 3) := by decide +kernel
set_option maxRecDepth 100000 in
theorem dX12_typeOf_292 : decode cX12_typeOf 292 = .ok (.iload_n 1, 1) := by decide +kernel
set_option maxRecDepth 100000 in
theorem dX12_typeOf_293 : decode cX12_typeOf 293 = .ok (.iaload, 1) := by decide +kernel
set_option maxRecDepth 100000 in
theorem dX12_typeOf_294 : decode cX12_typeOf 294 = .ok (.invokevirtual 570, 3) := by decide +kernel
set_option maxRecDepth 100000 in
theorem dX12_typeOf_297 : decode cX12_typeOf 297 = .ok (.aload_n 2, 1) := by decide +kernel
set_option maxRecDepth 100000 in
theorem dX12_typeOf_298 : decode cX12_typeOf 298 = .ok (.areturn, 1) := by decide +kernel
set_option maxRecDepth 100000 in
theorem dX12_typeOf_299 : decode cX12_typeOf 299 = .ok (.aload_n 0, 1) := by decide +kernel
set_option maxRecDepth 100000 in
theorem dX12_typeOf_300 : decode cX12_typeOf 300 = .ok (.aload_n 0, 1) := by decide +kernel
set_option maxRecDepth 100000 in
theorem dX12_typeOf_301 : decode cX12_typeOf 301 = .ok (.getfield 73, 3) := by decide +kernel
set_option maxRecDepth 100000 in
theorem dX12_typeOf_304 : decode cX12_typeOf 304 = .ok (.iload_n 1, 1) := by decide +kernel
set_option maxRecDepth 100000 in
theorem dX12_typeOf_305 : decode cX12_typeOf 305 = .ok (.iaload, 1) := by decide +kernel
set_option maxRecDepth 100000 in
theorem dX12_typeOf_306 : decode cX12_typeOf 306 = .ok (.invokevirtual 776, 3) := by decide +kernel
set_option maxRecDepth 100000 in
theorem dX12_typeOf_309 : decode cX12_typeOf 309 = .ok (.astore_n 3, 1) := by decide +kernel
set_option maxRecDepth 100000 in
theorem dX12_typeOf_310 : decode cX12_typeOf 310 = .ok (.aload_n 3, 1) := by decide +kernel
set_option maxRecDepth 100000 in
theorem dX12_typeOf_311 : decode cX12_typeOf 311 = .ok (.invokevirtual 861, 3) := by decide +kernel
set_option maxRecDepth 100000 in
theorem dX12_typeOf_314 : decode cX12_typeOf 314 = .ok (.ifCond .ne 15, 3) := by decide +kernel
set_option maxRecDepth 100000 in
theorem dX12_typeOf_317 : decode cX12_typeOf 317 = .ok (.aload_n 0, 1) := by decide +kernel
set_option maxRecDepth 100000 in
theorem dX12_typeOf_318 : decode cX12_typeOf 318 = .ok (.bipush 7, 2) := by decide +kernel
set_option maxRecDepth 100000 in
theorem dX12_typeOf_320 : decode cX12_typeOf 320 = .ok (.aload_n 0, 1) := by decide +kernel
set_option maxRecDepth 100000 in
theorem dX12_typeOf_321 : decode cX12_typeOf 321 = .ok (.getfield 70, 3) := by decide +kernel
set_option maxRecDepth 100000 in
theorem dX12_typeOf_324 : decode cX12_typeOf 324 = .ok (.iload_n 1, 1) := by decide +kernel
set_option maxRecDepth 100000 in
theorem dX12_typeOf_325 : decode cX12_typeOf 325 = .ok (.iaload, 1) := by decide +kernel
set_option maxRecDepth 100000 in
theorem dX12_typeOf_326 : decode cX12_typeOf 326 = .ok (.invokevirtual 570, 3) := by decide +kernel
set_option maxRecDepth 100000 in
theorem dX12_typeOf_329 : decode cX12_typeOf 329 = .ok (.aload_n 3, 1) := by decide +kernel
set_option maxRecDepth 100000 in
theorem dX12_typeOf_330 : decode cX12_typeOf 330 = .ok (.getfield 591, 3) := by decide +kernel
set_option maxRecDepth 100000 in
theorem dX12_typeOf_333 : decode cX12_typeOf 333 = .ok (.ifCond .lt 12, 3) := by decide +kernel
set_option maxRecDepth 100000 in
theorem dX12_typeOf_336 : decode cX12_typeOf 336 = .ok (.aload_n 3, 1) := by decide +kernel
set_option maxRecDepth 100000 in
theorem dX12_typeOf_337 : decode cX12_typeOf 337 = .ok (.getfield 595, 3) := by decide +kernel
set_option maxRecDepth 100000 in
theorem dX12_typeOf_340 : decode cX12_typeOf 340 = .ok (.bipush 127, 2) := by decide +kernel
set_option maxRecDepth 100000 in
theorem dX12_typeOf_342 : decode cX12_typeOf 342 = .ok (.if_icmp .le 15, 3) := by decide +kernel
set_option maxRecDepth 100000 in
theorem dX12_typeOf_345 : decode cX12_typeOf 345 = .ok (.aload_n 0, 1) := by decide +kernel
set_option maxRecDepth 100000 in
theorem dX12_typeOf_346 : decode cX12_typeOf 346 = .ok (.bipush 8, 2) := by decide +kernel
set_option maxRecDepth 100000 in
theorem dX12_typeOf_348 : decode cX12_typeOf 348 = .ok (.aload_n 0, 1) := by decide +kernel
set_option maxRecDepth 100000 in
theorem dX12_typeOf_349 : decode cX12_typeOf 349 = .ok (.getfield 70, 3) := by decide +kernel
set_option maxRecDepth 100000 in
theorem dX12_typeOf_352 : decode cX12_typeOf 352 = .ok (.iload_n 1, 1) := by decide +kernel
set_option maxRecDepth 100000 in
theorem dX12_typeOf_353 : decode cX12_typeOf 353 = .ok (.iaload, 1) := by decide +kernel
set_option maxRecDepth 100000 in
theorem dX12_typeOf_354 : decode cX12_typeOf 354 = .ok (.invokevirtual 570, 3) := by decide +kernel
set_option maxRecDepth 100000 in
theorem dX12_typeOf_357 : decode cX12_typeOf 357 = .ok (.new 94, 3) := by decide +kernel
set_option maxRecDepth 100000 in
theorem dX12_typeOf_360 : decode cX12_typeOf 360 = .ok (.dup, 1) := by decide +kernel
set_option maxRecDepth 100000 in
theorem dX12_typeOf_361 : decode cX12_typeOf 361 = .ok (.bipush 9, 2) := by decide +kernel
set_option maxRecDepth 100000 in
theorem dX12_typeOf_363 : decode cX12_typeOf 363 = .ok (.invokespecial 106, 3) := by decide +kernel
set_option maxRecDepth 100000 in
theorem dX12_typeOf_366 : decode cX12_typeOf 366 = .ok (.astore_n 2, 1) := by decide +kernel
set_option maxRecDepth 100000 in
theorem dX12_typeOf_367 : decode cX12_typeOf 367 = .ok (.aload_n 2, 1) := by decide +kernel
set_option maxRecDepth 100000 in
theorem dX12_typeOf_368 : decode cX12_typeOf 368 = .ok (.aload_n 3, 1) := by decide +kernel
set_option maxRecDepth 100000 in
theorem dX12_typeOf_369 : decode cX12_typeOf 369 = .ok (.putfield 864, 3) := by decide +kernel
set_option maxRecDepth 100000 in
theorem dX12_typeOf_372 : decode cX12_typeOf 372 = .ok (.aload_n 2, 1) := by decide +kernel
set_option maxRecDepth 100000 in
theorem dX12_typeOf_373 : decode cX12_typeOf 373 = .ok (.areturn, 1) := by decide +kernel
set_option maxRecDepth 100000 in
theorem dX12_typeOf_374 : decode cX12_typeOf 374 = .ok (.aload_n 0, 1) := by decide +kernel
set_option maxRecDepth 100000 in
theorem dX12_typeOf_375 : decode cX12_typeOf 375 = .ok (.aload_n 0, 1) := by decide +kernel
set_option maxRecDepth 100000 in
theorem dX12_typeOf_376 : decode cX12_typeOf 376 = .ok (.getfield 73, 3) := by decide +kernel
set_option maxRecDepth 100000 in
theorem dX12_typeOf_379 : decode cX12_typeOf 379 = .ok (.iload_n 1, 1) := by decide +kernel
set_option maxRecDepth 100000 in
theorem dX12_typeOf_380 : decode cX12_typeOf 380 = .ok (.iaload, 1) := by decide +kernel
set_option maxRecDepth 100000 in
theorem dX12_typeOf_381 : decode cX12_typeOf 381 = .ok (.invokevirtual 776, 3) := by decide +kernel
set_option maxRecDepth 100000 in
theorem dX12_typeOf_384 : decode cX12_typeOf 384 = .ok (.astore 4, 2) := by decide +kernel
set_option maxRecDepth 100000 in
theorem dX12_typeOf_386 : decode cX12_typeOf 386 = .ok (.aload 4, 2) := by decide +kernel
set_option maxRecDepth 100000 in
theorem dX12_typeOf_388 : decode cX12_typeOf 388 = .ok (.getfield 845, 3) := by decide +kernel
set_option maxRecDepth 100000 in
theorem dX12_typeOf_391 : decode cX12_typeOf 391 = .ok (.bipush 10, 2) := by decide +kernel
set_option maxRecDepth 100000 in
theorem dX12_typeOf_393 : decode cX12_typeOf 393 = .ok (.if_icmp .ne 15, 3) := by decide +kernel
set_option maxRecDepth 100000 in
theorem dX12_typeOf_396 : decode cX12_typeOf 396 = .ok (.aload_n 0, 1) := by decide +kernel
set_option maxRecDepth 100000 in
theorem dX12_typeOf_397 : decode cX12_typeOf 397 = .ok (.bipush 7, 2) := by decide +kernel
set_option maxRecDepth 100000 in
theorem dX12_typeOf_399 : decode cX12_typeOf 399 = .ok (.aload_n 0, 1) := by decide +kernel
set_option maxRecDepth 100000 in
theorem dX12_typeOf_400 : decode cX12_typeOf 400 = .ok (.getfield 70, 3) := by decide +kernel
set_option maxRecDepth 100000 in
theorem dX12_typeOf_403 : decode cX12_typeOf 403 = .ok (.iload_n 1, 1) := by decide +kernel
set_option maxRecDepth 100000 in
theorem dX12_typeOf_404 : decode cX12_typeOf 404 = .ok (.iaload, 1) := by decide +kernel
set_option maxRecDepth 100000 in
theorem dX12_typeOf_405 : decode cX12_typeOf 405 = .ok (.invokevirtual 570, 3) := by decide +kernel
set_option maxRecDepth 100000 in
theorem dX12_typeOf_408 : decode cX12_typeOf 408 = .ok (.new 94, 3) := by decide +kernel
set_option maxRecDepth 100000 in
theorem dX12_typeOf_411 : decode cX12_typeOf 411 = .ok (.dup, 1) := by decide +kernel
set_option maxRecDepth 100000 in
theorem dX12_typeOf_412 : decode cX12_typeOf 412 = .ok (.bipush 10, 2) := by decide +kernel
set_option maxRecDepth 100000 in
theorem dX12_typeOf_414 : decode cX12_typeOf 414 = .ok (.invokespecial 106, 3) := by decide +kernel
set_option maxRecDepth 100000 in
theorem dX12_typeOf_417 : decode cX12_typeOf 417 = .ok (.astore_n 2, 1) := by decide +kernel
set_option maxRecDepth 100000 in
theorem dX12_typeOf_418 : decode cX12_typeOf 418 = .ok (.aload_n 2, 1) := by decide +kernel
set_option maxRecDepth 100000 in
theorem dX12_typeOf_419 : decode cX12_typeOf 419 = .ok (.aload 4, 2) := by decide +kernel
set_option maxRecDepth 100000 in
theorem dX12_typeOf_421 : decode cX12_typeOf 421 = .ok (.putfield 598, 3) := by decide +kernel
set_option maxRecDepth 100000 in
theorem dX12_typeOf_424 : decode cX12_typeOf 424 = .ok (.aload_n 2, 1) := by decide +kernel
set_option maxRecDepth 100000 in
theorem dX12_typeOf_425 : decode cX12_typeOf 425 = .ok (.lconst 1, 1) := by decide +kernel
set_option maxRecDepth 100000 in
theorem dX12_typeOf_426 : decode cX12_typeOf 426 = .ok (.aload 4, 2) := by decide +kernel
set_option maxRecDepth 100000 in
theorem dX12_typeOf_428 : decode cX12_typeOf 428 = .ok (.getfield 603, 3) := by decide +kernel
set_option maxRecDepth 100000 in
theorem dX12_typeOf_431 : decode cX12_typeOf 431 = .ok (.ladd, 1) := by decide +kernel
set_option maxRecDepth 100000 in
theorem dX12_typeOf_432 : decode cX12_typeOf 432 = .ok (.putfield 603, 3) := by decide +kernel
set_option maxRecDepth 100000 in
theorem dX12_typeOf_435 : decode cX12_typeOf 435 = .ok (.aload_n 2, 1) := by decide +kernel
set_option maxRecDepth 100000 in
theorem dX12_typeOf_436 : decode cX12_typeOf 436 = .ok (.areturn, 1) := by decide +kernel
def lX12_typeOf_163 (G : xG) (fr lo : Nat) (x0 : Nat) (x2 : Nat) (x3 : Int32) (h : xH) (Q : Outcome → xH → Prop) : Prop := xP G YX12_typeOf fr lo 163 [(0, rv x0), (2, rv x2), (3, .int x3)] [] h Q
set_option maxRecDepth 100000 in
def bX12_typeOf_408 (G : xG) (fr lo : Nat) (x4 : Nat) (h : xH) (Q : Outcome → xH → Prop) : Prop := nx h + 1 ≤ xGN G ∧ us h + 8 ≤ xGU G ∧ (∀ (a3 : Nat) (h4 : xH), a3 = nx h + 1 → h4 = nO h 14 8 → xfresh h a3 → 1 ≤ fr ∧ 14 ≤ lo ∧ xRv G YX13_init (fr - 1) (lo - 14) [rv a3, .int 10] h4 (fun h11 => xext h4 h11 → (∀ h15 : xH, h15 = sR h11 a3 3333 x4 → tg h15 x4 = 14 ∧ (∀ h19 : xH, h19 = sJ h15 a3 3334 (1 + (fJ h15 x4 3334)) → Q (.returned (some (rv a3))) h19))) (fun r h2 => Q (.threw r) h2))
set_option maxRecDepth 100000 in
theorem uX12_typeOf_408 {G : xG} {fr lo : Nat} {x4 : Nat} {h : xH} {Q : Outcome → xH → Prop} (hq : bX12_typeOf_408 G fr lo x4 h Q) : xP G YX12_typeOf fr lo 408 [(4, rv x4)] [] h Q := by
  unfold bX12_typeOf_408 at hq
  obtain ⟨g1, g2, hq⟩ := hq
  obtain ⟨a3, e5⟩ : ∃ y, y = nx h + 1 := ⟨_, rfl⟩
  obtain ⟨h4, e6⟩ : ∃ y, y = nO h 14 8 := ⟨_, rfl⟩
  refine x_new' cdX12_94 dX12_typeOf_408 g1 g2 e5 e6 (fun f7 => ?_)
  replace hq := hq a3 h4 e5 e6 f7
  have t8 : tg h4 a3 = 14 := by rw [e6, e5]; exact tg_nO
  refine x_dup dX12_typeOf_411 (rv_cat _) ?_
  refine x_bipush (v := 10) dX12_typeOf_412 (by decide) ?_
  obtain ⟨g9, g10, hq⟩ := hq
  refine x_callI (Yc := YX13_init) (as := [.int 10]) (st := [rv a3]) q3209 miX13_init (by rw [t8]; decide) rfl dX12_typeOf_414 (xle (xal1 (rv_cat _) (xal1 rfl xal0)) (by decide)) (xfr g9) (xlo (xsw1 (rv_cat _) xsw0) (by decide) g10) (xKv hq (fun h11 hq e13 => ?_) (fun _ _ q _ => q))
  replace hq := hq e13
  refine x_astore_n (lv' := [(2, rv a3), (4, rv x4)]) dX12_typeOf_417 (by decide) rfl ?_
  refine x_aload_n 0 dX12_typeOf_418 rfl ?_
  refine x_aload 1 dX12_typeOf_419 rfl ?_
  have t14 : tg h11 a3 = 14 := e13.tg t8 (by decide)
  obtain ⟨h15, e16⟩ : ∃ y, y = sR h11 a3 3333 x4 := ⟨_, rfl⟩
  replace hq := hq h15 e16
  refine x_putR fdX12_598 xty_O dX12_typeOf_421 t14 (Or.inl (by rw [t14]; rfl)) rfl e16 ?_
  refine x_aload_n 0 dX12_typeOf_424 rfl ?_
  refine x_lconst (v := 1) dX12_typeOf_425 (by decide) ?_
  refine x_aload 1 dX12_typeOf_426 rfl ?_
  obtain ⟨g17, hq⟩ := hq
  refine x_get (v := .long (fJ h15 x4 3334)) fdX12_603 dX12_typeOf_428 g17 rfl ?_
  refine x_ladd dX12_typeOf_431 ?_
  have t18 : tg h15 a3 = 14 := by rw [e16]; exact t14
  obtain ⟨h19, e20⟩ : ∃ y, y = sJ h15 a3 3334 (1 + (fJ h15 x4 3334)) := ⟨_, rfl⟩
  replace hq := hq h19 e20
  refine x_putJ fdX12_603 dX12_typeOf_432 t18 (Or.inl (by rw [t18]; rfl)) rfl e20 ?_
  refine x_aload_n 0 dX12_typeOf_435 rfl ?_
  exact x_aret rfl xty_O dX12_typeOf_436 hq
set_option maxRecDepth 100000 in
def bX12_typeOf_357 (G : xG) (fr lo : Nat) (x3 : Nat) (h : xH) (Q : Outcome → xH → Prop) : Prop := nx h + 1 ≤ xGN G ∧ us h + 8 ≤ xGU G ∧ (∀ (a3 : Nat) (h4 : xH), a3 = nx h + 1 → h4 = nO h 14 8 → xfresh h a3 → 1 ≤ fr ∧ 14 ≤ lo ∧ xRv G YX13_init (fr - 1) (lo - 14) [rv a3, .int 9] h4 (fun h11 => xext h4 h11 → (∀ h15 : xH, h15 = sR h11 a3 3332 x3 → Q (.returned (some (rv a3))) h15)) (fun r h2 => Q (.threw r) h2))
set_option maxRecDepth 100000 in
theorem uX12_typeOf_357 {G : xG} {fr lo : Nat} {x3 : Nat} {h : xH} {Q : Outcome → xH → Prop} (hq : bX12_typeOf_357 G fr lo x3 h Q) : xP G YX12_typeOf fr lo 357 [(3, rv x3)] [] h Q := by
  unfold bX12_typeOf_357 at hq
  obtain ⟨g1, g2, hq⟩ := hq
  obtain ⟨a3, e5⟩ : ∃ y, y = nx h + 1 := ⟨_, rfl⟩
  obtain ⟨h4, e6⟩ : ∃ y, y = nO h 14 8 := ⟨_, rfl⟩
  refine x_new' cdX12_94 dX12_typeOf_357 g1 g2 e5 e6 (fun f7 => ?_)
  replace hq := hq a3 h4 e5 e6 f7
  have t8 : tg h4 a3 = 14 := by rw [e6, e5]; exact tg_nO
  refine x_dup dX12_typeOf_360 (rv_cat _) ?_
  refine x_bipush (v := 9) dX12_typeOf_361 (by decide) ?_
  obtain ⟨g9, g10, hq⟩ := hq
  refine x_callI (Yc := YX13_init) (as := [.int 9]) (st := [rv a3]) q3209 miX13_init (by rw [t8]; decide) rfl dX12_typeOf_363 (xle (xal1 (rv_cat _) (xal1 rfl xal0)) (by decide)) (xfr g9) (xlo (xsw1 (rv_cat _) xsw0) (by decide) g10) (xKv hq (fun h11 hq e13 => ?_) (fun _ _ q _ => q))
  replace hq := hq e13
  refine x_astore_n (lv' := [(2, rv a3), (3, rv x3)]) dX12_typeOf_366 (by decide) rfl ?_
  refine x_aload_n 0 dX12_typeOf_367 rfl ?_
  refine x_aload_n 1 dX12_typeOf_368 rfl ?_
  have t14 : tg h11 a3 = 14 := e13.tg t8 (by decide)
  obtain ⟨h15, e16⟩ : ∃ y, y = sR h11 a3 3332 x3 := ⟨_, rfl⟩
  replace hq := hq h15 e16
  refine x_putR fdX12_864 xty_O dX12_typeOf_369 t14 (Or.inl (by rw [t14]; rfl)) rfl e16 ?_
  refine x_aload_n 0 dX12_typeOf_372 rfl ?_
  exact x_aret rfl xty_O dX12_typeOf_373 hq
set_option maxRecDepth 100000 in
def bX12_typeOf_345 (G : xG) (fr lo : Nat) (x0 : Nat) (x1 : Int32) (x3 : Nat) (h : xH) (Q : Outcome → xH → Prop) : Prop := tg h x0 = 13 ∧ tg h (fR h x0 3102) = 100 ∧ vp_in x1 (ln h (fR h x0 3102)) ∧ 1 ≤ fr ∧ 14 ≤ lo ∧ xRv G YX12_refuse (fr - 1) (lo - 14) [rv x0, .int 8, .int (aI h (fR h x0 3102) (Int32.toNatClampNeg x1))] h (fun h6 => xext h h6 → bX12_typeOf_357 G fr lo x3 h6 Q) (fun r h2 => Q (.threw r) h2)
set_option maxRecDepth 100000 in
theorem uX12_typeOf_345 {G : xG} {fr lo : Nat} {x0 : Nat} {x1 : Int32} {x3 : Nat} {h : xH} {Q : Outcome → xH → Prop} (hq : bX12_typeOf_345 G fr lo x0 x1 x3 h Q) : xP G YX12_typeOf fr lo 345 [(0, rv x0), (1, .int x1), (3, rv x3)] [] h Q := by
  unfold bX12_typeOf_345 at hq
  refine x_aload_n 0 dX12_typeOf_345 rfl ?_
  refine x_bipush (v := 8) dX12_typeOf_346 (by decide) ?_
  refine x_aload_n 0 dX12_typeOf_348 rfl ?_
  obtain ⟨g1, hq⟩ := hq
  refine x_get (v := rv (fR h x0 3102)) fdX12_70 dX12_typeOf_349 g1 rfl ?_
  refine x_iload_n 1 dX12_typeOf_352 rfl ?_
  obtain ⟨g2, hq⟩ := hq
  obtain ⟨i3, hq⟩ := hq
  refine x_iald 0 (Or.inl rfl) g2 i3 dX12_typeOf_353 ?_
  obtain ⟨g4, g5, hq⟩ := hq
  refine x_callV (Yc := YX12_refuse) (as := [.int 8, .int (aI h (fR h x0 3102) (Int32.toNatClampNeg x1))]) (st := []) q4095 mvX12_refuse g1 rfl dX12_typeOf_354 (xle (xal1 (rv_cat _) (xal1 rfl (xal1 rfl xal0))) (by decide)) (xfr g4) (xlo xsw0 (by decide) g5) (xKv hq (fun h6 hq e8 => ?_) (fun _ _ q _ => q))
  replace hq := hq e8
  refine xP.pick (lv' := [(3, rv x3)]) [2] rfl ?_
  exact uX12_typeOf_357 hq
set_option maxRecDepth 100000 in
def bX12_typeOf_329 (G : xG) (fr lo : Nat) (x0 : Nat) (x1 : Int32) (x3 : Nat) (h : xH) (Q : Outcome → xH → Prop) : Prop := tg h x3 = 14 ∧ (((fI h x3 3329) < 0 → bX12_typeOf_345 G fr lo x0 x1 x3 h Q) ∧ (¬ (fI h x3 3329) < 0 → (((fI h x3 3330) ≤ 127 → bX12_typeOf_357 G fr lo x3 h Q) ∧ (¬ (fI h x3 3330) ≤ 127 → bX12_typeOf_345 G fr lo x0 x1 x3 h Q))))
set_option maxRecDepth 100000 in
theorem uX12_typeOf_329 {G : xG} {fr lo : Nat} {x0 : Nat} {x1 : Int32} {x3 : Nat} {h : xH} {Q : Outcome → xH → Prop} (hq : bX12_typeOf_329 G fr lo x0 x1 x3 h Q) : xP G YX12_typeOf fr lo 329 [(0, rv x0), (1, .int x1), (3, rv x3)] [] h Q := by
  unfold bX12_typeOf_329 at hq
  refine x_aload_n 2 dX12_typeOf_329 rfl ?_
  obtain ⟨g1, hq⟩ := hq
  refine x_get (v := .int (fI h x3 3329)) fdX12_591 dX12_typeOf_330 g1 rfl ?_
  refine x_if_lt (tgt := 345) dX12_typeOf_333 (by decide) (fun c2 => ?_) (fun c2 => ?_)
  · replace hq := hq.1 c2
    exact uX12_typeOf_345 hq
  · replace hq := hq.2 c2
    refine x_aload_n 2 dX12_typeOf_336 rfl ?_
    refine x_get (v := .int (fI h x3 3330)) fdX12_595 dX12_typeOf_337 g1 rfl ?_
    refine x_bipush (v := 127) dX12_typeOf_340 (by decide) ?_
    refine x_icmp_le (tgt := 357) dX12_typeOf_342 (by decide) (fun c3 => ?_) (fun c3 => ?_)
    · replace hq := hq.1 c3
      refine xP.pick (lv' := [(3, rv x3)]) [2] rfl ?_
      exact uX12_typeOf_357 hq
    · replace hq := hq.2 c3
      exact uX12_typeOf_345 hq
set_option maxRecDepth 100000 in
def bX12_typeOf_297 (G : xG) (fr lo : Nat) (x2 : Nat) (h : xH) (Q : Outcome → xH → Prop) : Prop := Q (.returned (some (rv x2))) h
set_option maxRecDepth 100000 in
theorem uX12_typeOf_297 {G : xG} {fr lo : Nat} {x2 : Nat} {h : xH} {Q : Outcome → xH → Prop} (hq : bX12_typeOf_297 G fr lo x2 h Q) : xP G YX12_typeOf fr lo 297 [(2, rv x2)] [] h Q := by
  unfold bX12_typeOf_297 at hq
  refine x_aload_n 0 dX12_typeOf_297 rfl ?_
  exact x_aret rfl xty_O dX12_typeOf_298 hq
set_option maxRecDepth 100000 in
def bX12_typeOf_163 (G : xG) (fr lo : Nat) (x0 : Nat) (x2 : Nat) (x3 : Int32) (h : xH) (Q : Outcome → xH → Prop) : Prop := ((x3 = (-1) → Q (.returned (some (rv x2))) h) ∧ (¬ x3 = (-1) → tg h x0 = 13 ∧ tg h (fR h x0 3102) = 100 ∧ vp_in x3 (ln h (fR h x0 3102)) ∧ 1 ≤ fr ∧ 15 ≤ lo ∧ xRr G YX12_here (fr - 1) (lo - 15) [rv x0] h (fun x8 h7 => xext h h7 → 1 ≤ fr ∧ 16 ≤ lo ∧ xRr G YX12_define (fr - 1) (lo - 16) [rv x0, .int 1, .int (aI h (fR h x0 3102) (Int32.toNatClampNeg x3)), rv x8] h7 (fun x14 h13 => xext h7 h13 → tg h13 x2 = 14 ∧ (∀ h17 : xH, h17 = sI h13 x2 3330 ((fI h13 x2 3330) + 1) → tg h17 x14 = 24 ∧ (∀ h20 : xH, h20 = sR h17 x14 5890 x2 → (∀ h25 : xH, h25 = sJ h20 x14 5891 (Int32.toInt64 (fI h20 x2 3330)) → tg h25 (fR h25 x0 3105) = 100 ∧ vp_in x3 (ln h25 (fR h25 x0 3105)) ∧ lX12_typeOf_163 G fr lo x0 x2 (aI h25 (fR h25 x0 3105) (Int32.toNatClampNeg x3)) h25 Q)))) (fun r h2 => Q (.threw r) h2)) (fun r h2 => Q (.threw r) h2)))
set_option maxRecDepth 100000 in
theorem uX12_typeOf_163 {G : xG} {fr lo : Nat} {x0 : Nat} {x2 : Nat} {x3 : Int32} {h : xH} {Q : Outcome → xH → Prop} (hq : bX12_typeOf_163 G fr lo x0 x2 x3 h Q) : xP G YX12_typeOf fr lo 163 [(0, rv x0), (2, rv x2), (3, .int x3)] [] h Q := by
  unfold bX12_typeOf_163 at hq
  refine x_iload_n 2 dX12_typeOf_163 rfl ?_
  refine x_iconst (v := (-1)) dX12_typeOf_164 (by decide) ?_
  refine x_icmp_eq (tgt := 221) dX12_typeOf_165 (by decide) (fun c1 => ?_) (fun c1 => ?_)
  · replace hq := hq.1 c1
    refine x_aload_n 1 dX12_typeOf_221 rfl ?_
    exact x_aret rfl xty_O dX12_typeOf_222 hq
  · replace hq := hq.2 c1
    refine x_aload_n 0 dX12_typeOf_168 rfl ?_
    refine x_iconst (v := 1) dX12_typeOf_169 (by decide) ?_
    refine x_aload_n 0 dX12_typeOf_170 rfl ?_
    obtain ⟨g2, hq⟩ := hq
    refine x_get (v := rv (fR h x0 3102)) fdX12_70 dX12_typeOf_171 g2 rfl ?_
    refine x_iload_n 2 dX12_typeOf_174 rfl ?_
    obtain ⟨g3, hq⟩ := hq
    obtain ⟨i4, hq⟩ := hq
    refine x_iald 0 (Or.inl rfl) g3 i4 dX12_typeOf_175 ?_
    refine x_aload_n 0 dX12_typeOf_176 rfl ?_
    obtain ⟨g5, g6, hq⟩ := hq
    refine x_callV (Yc := YX12_here) (as := []) (st := [.int (aI h (fR h x0 3102) (Int32.toNatClampNeg x3)), .int 1, rv x0]) q4105 mvX12_here g2 rfl dX12_typeOf_177 (xle (xal1 (rv_cat _) xal0) (by decide)) (xfr g5) (xlo (xsw1 rfl (xsw1 rfl (xsw1 (rv_cat _) xsw0))) (by decide) g6) (xKr hq (fun x8 h7 hq e9 => ?_) (fun _ _ q _ => q))
    replace hq := hq e9
    have t10 : tg h7 x0 = 13 := e9.tg g2 (by decide)
    obtain ⟨g11, g12, hq⟩ := hq
    refine x_callV (Yc := YX12_define) (as := [.int 1, .int (aI h (fR h x0 3102) (Int32.toNatClampNeg x3)), rv x8]) (st := []) q4110 mvX12_define t10 rfl dX12_typeOf_180 (xle (xal1 (rv_cat _) (xal1 rfl (xal1 rfl (xal1 (rv_cat _) xal0)))) (by decide)) (xfr g11) (xlo xsw0 (by decide) g12) (xKr hq (fun x14 h13 hq e15 => ?_) (fun _ _ q _ => q))
    replace hq := hq e15
    refine x_astore (lv' := [(4, rv x14), (0, rv x0), (2, rv x2), (3, .int x3)]) dX12_typeOf_183 (by decide) rfl ?_
    refine x_aload_n 2 dX12_typeOf_185 rfl ?_
    refine x_dup dX12_typeOf_186 (rv_cat _) ?_
    obtain ⟨g16, hq⟩ := hq
    refine x_get (v := .int (fI h13 x2 3330)) fdX12_595 dX12_typeOf_187 g16 rfl ?_
    refine x_iconst (v := 1) dX12_typeOf_190 (by decide) ?_
    refine x_iadd dX12_typeOf_191 ?_
    obtain ⟨h17, e18⟩ : ∃ y, y = sI h13 x2 3330 ((fI h13 x2 3330) + 1) := ⟨_, rfl⟩
    replace hq := hq h17 e18
    refine x_putI fdX12_595 xty_I1 dX12_typeOf_192 g16 (Or.inl (by rw [g16]; rfl)) xnI rfl e18 ?_
    refine x_aload 0 dX12_typeOf_195 rfl ?_
    refine x_aload_n 2 dX12_typeOf_197 rfl ?_
    obtain ⟨g19, hq⟩ := hq
    obtain ⟨h20, e21⟩ : ∃ y, y = sR h17 x14 5890 x2 := ⟨_, rfl⟩
    replace hq := hq h20 e21
    refine x_putR fdX12_612 xty_O dX12_typeOf_198 g19 (Or.inl (by rw [g19]; rfl)) rfl e21 ?_
    refine x_aload 0 dX12_typeOf_201 rfl ?_
    refine x_aload_n 2 dX12_typeOf_203 rfl ?_
    have t22 : tg h17 x2 = 14 := by rw [e18]; exact g16
    have t23 : tg h20 x2 = 14 := by rw [e21]; exact t22
    refine x_get (v := .int (fI h20 x2 3330)) fdX12_595 dX12_typeOf_204 t23 rfl ?_
    refine x_i2l dX12_typeOf_207 ?_
    have t24 : tg h20 x14 = 24 := by rw [e21]; exact g19
    obtain ⟨h25, e26⟩ : ∃ y, y = sJ h20 x14 5891 (Int32.toInt64 (fI h20 x2 3330)) := ⟨_, rfl⟩
    replace hq := hq h25 e26
    refine x_putJ fdX12_624 dX12_typeOf_208 t24 (Or.inl (by rw [t24]; rfl)) rfl e26 ?_
    refine x_aload_n 1 dX12_typeOf_211 rfl ?_
    have t27 : tg h13 x0 = 13 := e15.tg t10 (by decide)
    have t28 : tg h17 x0 = 13 := by rw [e18]; exact t27
    have t29 : tg h20 x0 = 13 := by rw [e21]; exact t28
    have t30 : tg h25 x0 = 13 := by rw [e26]; exact t29
    refine x_get (v := rv (fR h25 x0 3105)) fdX12_79 dX12_typeOf_212 t30 rfl ?_
    refine x_iload_n 3 dX12_typeOf_215 rfl ?_
    obtain ⟨g31, hq⟩ := hq
    obtain ⟨i32, hq⟩ := hq
    refine x_iald 0 (Or.inl rfl) g31 i32 dX12_typeOf_216 ?_
    refine x_istore_n (lv' := [(3, .int (aI h25 (fR h25 x0 3105) (Int32.toNatClampNeg x3))), (4, rv x14), (0, rv x0), (2, rv x2)]) dX12_typeOf_217 (by decide) (by first | rfl | (simp [rv_cat, Value.category]; done) | (simp [rv_cat, Value.category]; decide)) ?_
    refine x_goto (tgt := 163) dX12_typeOf_218 (by decide) ?_
    refine xP.pick (lv' := [(0, rv x0), (2, rv x2), (3, .int (aI h25 (fR h25 x0 3105) (Int32.toNatClampNeg x3)))]) [2, 3, 0] rfl ?_
    exact hq
set_option maxRecDepth 100000 in
def bX12_typeOf_120 (G : xG) (fr lo : Nat) (x2 : Nat) (h : xH) (Q : Outcome → xH → Prop) : Prop := Q (.returned (some (rv x2))) h
set_option maxRecDepth 100000 in
theorem uX12_typeOf_120 {G : xG} {fr lo : Nat} {x2 : Nat} {h : xH} {Q : Outcome → xH → Prop} (hq : bX12_typeOf_120 G fr lo x2 h Q) : xP G YX12_typeOf fr lo 120 [(2, rv x2)] [] h Q := by
  unfold bX12_typeOf_120 at hq
  refine x_aload_n 0 dX12_typeOf_120 rfl ?_
  exact x_aret rfl xty_O dX12_typeOf_121 hq
set_option maxRecDepth 100000 in
def bX12_typeOf (G : xG) (fr lo : Nat) (x0 : Nat) (x1 : Int32) (h : xH) (Q : Outcome → xH → Prop) : Prop := tg h x0 = 13 ∧ tg h (fR h x0 3101) = 100 ∧ vp_in x1 (ln h (fR h x0 3101)) ∧ (((aI h (fR h x0 3101) (Int32.toNatClampNeg x1)) = 10 → nx h + 1 ≤ xGN G ∧ us h + 8 ≤ xGU G ∧ (∀ (a7 : Nat) (h8 : xH), a7 = nx h + 1 → h8 = nO h 14 8 → xfresh h a7 → 1 ≤ fr ∧ 14 ≤ lo ∧ xRv G YX13_init (fr - 1) (lo - 14) [rv a7, .int 11] h8 (fun h15 => xext h8 h15 → (((fI h15 x0 3131) = 0 → tg h15 (fR h15 x0 3103) = 100 ∧ vp_in x1 (ln h15 (fR h15 x0 3103)) ∧ tg h15 (fR h15 x0 3102) = 100 ∧ vp_in (aI h15 (fR h15 x0 3103) (Int32.toNatClampNeg x1)) (ln h15 (fR h15 x0 3102)) ∧ 1 ≤ fr ∧ 15 ≤ lo ∧ xRv G YX12_point (fr - 1) (lo - 15) [rv x0, rv a7, .int (aI h15 (fR h15 x0 3102) (Int32.toNatClampNeg (aI h15 (fR h15 x0 3103) (Int32.toNatClampNeg x1))))] h15 (fun h27 => xext h15 h27 → bX12_typeOf_120 G fr lo a7 h27 Q) (fun r h2 => Q (.threw r) h2)) ∧ (¬ (fI h15 x0 3131) = 0 → tg h15 (fR h15 x0 3132) = 29 ∧ 1 ≤ fr ∧ 13 ≤ lo ∧ xRi G YJ2_size (fr - 1) (lo - 13) [rv (fR h15 x0 3132)] h15 (fun x34 h33 => xext h15 h33 → tg h33 (fR h33 x0 3103) = 100 ∧ vp_in x1 (ln h33 (fR h33 x0 3103)) ∧ tg h33 (fR h33 x0 3102) = 100 ∧ vp_in (aI h33 (fR h33 x0 3103) (Int32.toNatClampNeg x1)) (ln h33 (fR h33 x0 3102)) ∧ tg h33 (fR h15 x0 3133) = 100 ∧ vp_in x34 (ln h33 (fR h15 x0 3133)) ∧ (∀ h43 : xH, h43 = tI h33 (fR h15 x0 3133) (Int32.toNatClampNeg x34) (aI h33 (fR h33 x0 3102) (Int32.toNatClampNeg (aI h33 (fR h33 x0 3103) (Int32.toNatClampNeg x1)))) → tg h43 (fR h43 x0 3132) = 29 ∧ 1 ≤ fr ∧ 13 ≤ lo ∧ xRi G YJ2_add (fr - 1) (lo - 13) [rv (fR h43 x0 3132), rv a7] h43 (fun x50 h49 => xext h43 h49 → bX12_typeOf_120 G fr lo a7 h49 Q) (fun r h2 => Q (.threw r) h2))) (fun r h2 => Q (.threw r) h2)))) (fun r h2 => Q (.threw r) h2))) ∧ ((aI h (fR h x0 3101) (Int32.toNatClampNeg x1)) = 11 → 1 ≤ fr ∧ 17 ≤ lo ∧ xRr G YX12_arrayOf (fr - 1) (lo - 17) [rv x0, .int x1] h (fun x56 h55 => xext h h55 → Q (.returned (some (rv x56))) h55) (fun r h2 => Q (.threw r) h2)) ∧ ((aI h (fR h x0 3101) (Int32.toNatClampNeg x1)) = 12 → nx h + 1 ≤ xGN G ∧ us h + 8 ≤ xGU G ∧ (∀ (a61 : Nat) (h62 : xH), a61 = nx h + 1 → h62 = nO h 14 8 → xfresh h a61 → 1 ≤ fr ∧ 14 ≤ lo ∧ xRv G YX13_init (fr - 1) (lo - 14) [rv a61, .int 8] h62 (fun h69 => xext h62 h69 → (∀ h73 : xH, h73 = sJ h69 a61 3334 0 → nx h73 + 1 ≤ xGN G ∧ us h73 + 3 ≤ xGU G ∧ (∀ (a77 : Nat) (h78 : xH), a77 = nx h73 + 1 → h78 = nO h73 29 3 → xfresh h73 a77 → 1 ≤ fr ∧ 14 ≤ lo ∧ xRv G YJ2_init_2 (fr - 1) (lo - 14) [rv a77] h78 (fun h85 => xext h78 h85 → (∀ h91 : xH, h91 = sR h85 a61 3335 a77 → tg h91 (fR h91 x0 3103) = 100 ∧ vp_in x1 (ln h91 (fR h91 x0 3103)) ∧ 1 ≤ fr ∧ 19 ≤ lo ∧ xRv G YX12_fieldsOf (fr - 1) (lo - 19) [rv x0, .int (aI h91 (fR h91 x0 3103) (Int32.toNatClampNeg x1)), rv a61, rv 0, .int 0] h91 (fun h103 => xext h91 h103 → (((lg_cmp (fJ h103 a61 3334) 5000) ≤ 0 → bX12_typeOf_297 G fr lo a61 h103 Q) ∧ (¬ (lg_cmp (fJ h103 a61 3334) 5000) ≤ 0 → tg h103 (fR h103 x0 3102) = 100 ∧ vp_in x1 (ln h103 (fR h103 x0 3102)) ∧ 1 ≤ fr ∧ 14 ≤ lo ∧ xRv G YX12_refuse (fr - 1) (lo - 14) [rv x0, .int 8, .int (aI h103 (fR h103 x0 3102) (Int32.toNatClampNeg x1))] h103 (fun h114 => xext h103 h114 → bX12_typeOf_297 G fr lo a61 h114 Q) (fun r h2 => Q (.threw r) h2)))) (fun r h2 => Q (.threw r) h2))) (fun r h2 => Q (.threw r) h2)))) (fun r h2 => Q (.threw r) h2))) ∧ ((aI h (fR h x0 3101) (Int32.toNatClampNeg x1)) = 13 → tg h (fR h x0 3103) = 100 ∧ vp_in x1 (ln h (fR h x0 3103)) ∧ 1 ≤ fr ∧ 16 ≤ lo ∧ xRr G YX12_typeOf (fr - 1) (lo - 16) [rv x0, .int (aI h (fR h x0 3103) (Int32.toNatClampNeg x1))] h (fun x123 h122 => xext h h122 → tg h122 x123 = 14 ∧ 1 ≤ fr ∧ 12 ≤ lo ∧ xRi G YX13_isOrdinal (fr - 1) (lo - 12) [rv x123] h122 (fun x129 h128 => xext h122 h128 → ((¬ x129 = 0 → bX12_typeOf_329 G fr lo x0 x1 x123 h128 Q) ∧ (x129 = 0 → tg h128 (fR h128 x0 3102) = 100 ∧ vp_in x1 (ln h128 (fR h128 x0 3102)) ∧ 1 ≤ fr ∧ 14 ≤ lo ∧ xRv G YX12_refuse (fr - 1) (lo - 14) [rv x0, .int 7, .int (aI h128 (fR h128 x0 3102) (Int32.toNatClampNeg x1))] h128 (fun h138 => xext h128 h138 → bX12_typeOf_329 G fr lo x0 x1 x123 h138 Q) (fun r h2 => Q (.threw r) h2)))) (fun r h2 => Q (.threw r) h2)) (fun r h2 => Q (.threw r) h2)) ∧ ((aI h (fR h x0 3101) (Int32.toNatClampNeg x1)) = 14 → tg h (fR h x0 3103) = 100 ∧ vp_in x1 (ln h (fR h x0 3103)) ∧ 1 ≤ fr ∧ 16 ≤ lo ∧ xRr G YX12_typeOf (fr - 1) (lo - 16) [rv x0, .int (aI h (fR h x0 3103) (Int32.toNatClampNeg x1))] h (fun x147 h146 => xext h h146 → tg h146 x147 = 14 ∧ ((¬ (fI h146 x147 3328) = 10 → bX12_typeOf_408 G fr lo x147 h146 Q) ∧ ((fI h146 x147 3328) = 10 → tg h146 (fR h146 x0 3102) = 100 ∧ vp_in x1 (ln h146 (fR h146 x0 3102)) ∧ 1 ≤ fr ∧ 14 ≤ lo ∧ xRv G YX12_refuse (fr - 1) (lo - 14) [rv x0, .int 7, .int (aI h146 (fR h146 x0 3102) (Int32.toNatClampNeg x1))] h146 (fun h156 => xext h146 h156 → bX12_typeOf_408 G fr lo x147 h156 Q) (fun r h2 => Q (.threw r) h2)))) (fun r h2 => Q (.threw r) h2)) ∧ ((aI h (fR h x0 3101) (Int32.toNatClampNeg x1)) = 15 → nx h + 1 ≤ xGN G ∧ us h + 8 ≤ xGU G ∧ (∀ (a162 : Nat) (h163 : xH), a162 = nx h + 1 → h163 = nO h 14 8 → xfresh h a162 → 1 ≤ fr ∧ 14 ≤ lo ∧ xRv G YX13_init (fr - 1) (lo - 14) [rv a162, .int 5] h163 (fun h170 => xext h163 h170 → (∀ h174 : xH, h174 = sI h170 a162 3330 (-1) → tg h174 (fR h174 x0 3103) = 100 ∧ vp_in x1 (ln h174 (fR h174 x0 3103)) ∧ vp_in (aI h174 (fR h174 x0 3103) (Int32.toNatClampNeg x1)) (ln h174 (fR h174 x0 3103)) ∧ lX12_typeOf_163 G fr lo x0 a162 (aI h174 (fR h174 x0 3103) (Int32.toNatClampNeg (aI h174 (fR h174 x0 3103) (Int32.toNatClampNeg x1)))) h174 Q)) (fun r h2 => Q (.threw r) h2))) ∧ ((aI h (fR h x0 3101) (Int32.toNatClampNeg x1)) = 16 → 1 ≤ fr ∧ 17 ≤ lo ∧ xRr G YX12_rangeOf (fr - 1) (lo - 17) [rv x0, .int x1] h (fun x186 h185 => xext h h185 → Q (.returned (some (rv x186))) h185) (fun r h2 => Q (.threw r) h2)) ∧ ((aI h (fR h x0 3101) (Int32.toNatClampNeg x1)) = 17 → tg h (fR h x0 3102) = 100 ∧ vp_in x1 (ln h (fR h x0 3102)) ∧ 1 ≤ fr ∧ 15 ≤ lo ∧ xRr G YX12_findOf (fr - 1) (lo - 15) [rv x0, .int (aI h (fR h x0 3102) (Int32.toNatClampNeg x1)), .int 2] h (fun x194 h193 => xext h h193 → tg h193 x194 = 24 ∧ Q (.returned (some (rv (fR h193 x194 5890)))) h193) (fun r h2 => Q (.threw r) h2)) ∧ (¬ (aI h (fR h x0 3101) (Int32.toNatClampNeg x1)) = 10 → ¬ (aI h (fR h x0 3101) (Int32.toNatClampNeg x1)) = 11 → ¬ (aI h (fR h x0 3101) (Int32.toNatClampNeg x1)) = 12 → ¬ (aI h (fR h x0 3101) (Int32.toNatClampNeg x1)) = 13 → ¬ (aI h (fR h x0 3101) (Int32.toNatClampNeg x1)) = 14 → ¬ (aI h (fR h x0 3101) (Int32.toNatClampNeg x1)) = 15 → ¬ (aI h (fR h x0 3101) (Int32.toNatClampNeg x1)) = 16 → ¬ (aI h (fR h x0 3101) (Int32.toNatClampNeg x1)) = 17 → tg h (fR h x0 3103) = 100 ∧ vp_in x1 (ln h (fR h x0 3103)) ∧ 1 ≤ fr ∧ 16 ≤ lo ∧ xRr G YX12_typeOf (fr - 1) (lo - 16) [rv x0, .int (aI h (fR h x0 3103) (Int32.toNatClampNeg x1))] h (fun x202 h201 => xext h h201 → tg h201 x202 = 14 ∧ ((¬ (fI h201 x202 3328) = 10 → bX12_typeOf_408 G fr lo x202 h201 Q) ∧ ((fI h201 x202 3328) = 10 → tg h201 (fR h201 x0 3102) = 100 ∧ vp_in x1 (ln h201 (fR h201 x0 3102)) ∧ 1 ≤ fr ∧ 14 ≤ lo ∧ xRv G YX12_refuse (fr - 1) (lo - 14) [rv x0, .int 7, .int (aI h201 (fR h201 x0 3102) (Int32.toNatClampNeg x1))] h201 (fun h211 => xext h201 h211 → bX12_typeOf_408 G fr lo x202 h211 Q) (fun r h2 => Q (.threw r) h2)))) (fun r h2 => Q (.threw r) h2)))
set_option maxRecDepth 100000 in
theorem uX12_typeOf {G : xG} {fr lo : Nat} {x0 : Nat} {x1 : Int32} {h : xH} {Q : Outcome → xH → Prop} (hq : bX12_typeOf G fr lo x0 x1 h Q) : xP G YX12_typeOf fr lo 0 [(0, rv x0), (1, .int x1)] [] h Q := by
  unfold bX12_typeOf at hq
  refine x_aload_n 0 dX12_typeOf_0 rfl ?_
  obtain ⟨g1, hq⟩ := hq
  refine x_get (v := rv (fR h x0 3101)) fdX12_67 dX12_typeOf_1 g1 rfl ?_
  refine x_iload_n 1 dX12_typeOf_4 rfl ?_
  obtain ⟨g2, hq⟩ := hq
  obtain ⟨i3, hq⟩ := hq
  refine x_iald 0 (Or.inl rfl) g2 i3 dX12_typeOf_5 ?_
  by_cases c4 : (aI h (fR h x0 3101) (Int32.toNatClampNeg x1)) = 10
  · replace hq := hq.1 c4
    refine x_tin (tgt := 52) (off := 46) 10 c4 dX12_typeOf_6 (by decide) (by decide) (by decide) (by decide) ?_
    obtain ⟨g5, g6, hq⟩ := hq
    obtain ⟨a7, e9⟩ : ∃ y, y = nx h + 1 := ⟨_, rfl⟩
    obtain ⟨h8, e10⟩ : ∃ y, y = nO h 14 8 := ⟨_, rfl⟩
    refine x_new' cdX12_94 dX12_typeOf_52 g5 g6 e9 e10 (fun f11 => ?_)
    replace hq := hq a7 h8 e9 e10 f11
    have t12 : tg h8 a7 = 14 := by rw [e10, e9]; exact tg_nO
    refine x_dup dX12_typeOf_55 (rv_cat _) ?_
    refine x_bipush (v := 11) dX12_typeOf_56 (by decide) ?_
    obtain ⟨g13, g14, hq⟩ := hq
    refine x_callI (Yc := YX13_init) (as := [.int 11]) (st := [rv a7]) q3209 miX13_init (by rw [t12]; decide) rfl dX12_typeOf_58 (xle (xal1 (rv_cat _) (xal1 rfl xal0)) (by decide)) (xfr g13) (xlo (xsw1 (rv_cat _) xsw0) (by decide) g14) (xKv hq (fun h15 hq e17 => ?_) (fun _ _ q _ => q))
    replace hq := hq e17
    refine x_astore_n (lv' := [(2, rv a7), (0, rv x0), (1, .int x1)]) dX12_typeOf_61 (by decide) rfl ?_
    refine x_aload_n 1 dX12_typeOf_62 rfl ?_
    have t18 : tg h8 x0 = 13 := by rw [e10]; exact tg_nO_ne e9 f11 g1 (by decide)
    have t19 : tg h15 x0 = 13 := e17.tg t18 (by decide)
    refine x_get (v := .int (fI h15 x0 3131)) fdX12_773 dX12_typeOf_63 t19 rfl ?_
    refine x_if_eq (tgt := 104) dX12_typeOf_66 (by decide) (fun c20 => ?_) (fun c20 => ?_)
    · replace hq := hq.1 c20
      refine x_aload_n 1 dX12_typeOf_104 rfl ?_
      refine x_aload_n 0 dX12_typeOf_105 rfl ?_
      refine x_aload_n 1 dX12_typeOf_106 rfl ?_
      refine x_get (v := rv (fR h15 x0 3102)) fdX12_70 dX12_typeOf_107 t19 rfl ?_
      refine x_aload_n 1 dX12_typeOf_110 rfl ?_
      refine x_get (v := rv (fR h15 x0 3103)) fdX12_73 dX12_typeOf_111 t19 rfl ?_
      refine x_iload_n 2 dX12_typeOf_114 rfl ?_
      obtain ⟨g21, hq⟩ := hq
      obtain ⟨i22, hq⟩ := hq
      refine x_iald 0 (Or.inl rfl) g21 i22 dX12_typeOf_115 ?_
      obtain ⟨g23, hq⟩ := hq
      obtain ⟨i24, hq⟩ := hq
      refine x_iald 0 (Or.inl rfl) g23 i24 dX12_typeOf_116 ?_
      obtain ⟨g25, g26, hq⟩ := hq
      refine x_callV (Yc := YX12_point) (as := [rv a7, .int (aI h15 (fR h15 x0 3102) (Int32.toNatClampNeg (aI h15 (fR h15 x0 3103) (Int32.toNatClampNeg x1))))]) (st := []) q4177 mvX12_point t19 rfl dX12_typeOf_117 (xle (xal1 (rv_cat _) (xal1 (rv_cat _) (xal1 rfl xal0))) (by decide)) (xfr g25) (xlo xsw0 (by decide) g26) (xKv hq (fun h27 hq e29 => ?_) (fun _ _ q _ => q))
      replace hq := hq e29
      refine xP.pick (lv' := [(2, rv a7)]) [0] rfl ?_
      exact uX12_typeOf_120 hq
    · replace hq := hq.2 c20
      refine x_aload_n 1 dX12_typeOf_69 rfl ?_
      refine x_get (v := rv (fR h15 x0 3133)) fdX12_153 dX12_typeOf_70 t19 rfl ?_
      refine x_aload_n 1 dX12_typeOf_73 rfl ?_
      refine x_get (v := rv (fR h15 x0 3132)) fdX12_150 dX12_typeOf_74 t19 rfl ?_
      obtain ⟨g30, hq⟩ := hq
      obtain ⟨g31, g32, hq⟩ := hq
      refine x_callV (Yc := YJ2_size) (as := []) (st := [rv (fR h15 x0 3133)]) q4067 mvJ2_size g30 rfl dX12_typeOf_77 (xle (xal1 (rv_cat _) xal0) (by decide)) (xfr g31) (xlo (xsw1 (rv_cat _) xsw0) (by decide) g32) (xKi hq (fun x34 h33 hq e35 => ?_) (fun _ _ q _ => q))
      replace hq := hq e35
      refine x_aload_n 1 dX12_typeOf_80 rfl ?_
      have t36 : tg h33 x0 = 13 := e35.tg t19 (by decide)
      refine x_get (v := rv (fR h33 x0 3102)) fdX12_70 dX12_typeOf_81 t36 rfl ?_
      refine x_aload_n 1 dX12_typeOf_84 rfl ?_
      refine x_get (v := rv (fR h33 x0 3103)) fdX12_73 dX12_typeOf_85 t36 rfl ?_
      refine x_iload_n 2 dX12_typeOf_88 rfl ?_
      obtain ⟨g37, hq⟩ := hq
      obtain ⟨i38, hq⟩ := hq
      refine x_iald 0 (Or.inl rfl) g37 i38 dX12_typeOf_89 ?_
      obtain ⟨g39, hq⟩ := hq
      obtain ⟨i40, hq⟩ := hq
      refine x_iald 0 (Or.inl rfl) g39 i40 dX12_typeOf_90 ?_
      obtain ⟨g41, hq⟩ := hq
      obtain ⟨i42, hq⟩ := hq
      obtain ⟨h43, e44⟩ : ∃ y, y = tI h33 (fR h15 x0 3133) (Int32.toNatClampNeg x34) (aI h33 (fR h33 x0 3102) (Int32.toNatClampNeg (aI h33 (fR h33 x0 3103) (Int32.toNatClampNeg x1)))) := ⟨_, rfl⟩
      replace hq := hq h43 e44
      refine x_iast' g41 i42 dX12_typeOf_91 e44 ?_
      refine x_aload_n 1 dX12_typeOf_92 rfl ?_
      have t45 : tg h43 x0 = 13 := by rw [e44]; exact t36
      refine x_get (v := rv (fR h43 x0 3132)) fdX12_150 dX12_typeOf_93 t45 rfl ?_
      refine x_aload_n 0 dX12_typeOf_96 rfl ?_
      obtain ⟨g46, hq⟩ := hq
      obtain ⟨g47, g48, hq⟩ := hq
      refine x_callV (Yc := YJ2_add) (as := [rv a7]) (st := []) q4030 mvJ2_add g46 rfl dX12_typeOf_97 (xle (xal1 (rv_cat _) (xal1 (rv_cat _) xal0)) (by decide)) (xfr g47) (xlo xsw0 (by decide) g48) (xKi hq (fun x50 h49 hq e51 => ?_) (fun _ _ q _ => q))
      replace hq := hq e51
      refine x_pop dX12_typeOf_100 rfl ?_
      refine x_goto (tgt := 120) dX12_typeOf_101 (by decide) ?_
      refine xP.pick (lv' := [(2, rv a7)]) [0] rfl ?_
      exact uX12_typeOf_120 hq
  replace hq := hq.2
  by_cases c52 : (aI h (fR h x0 3101) (Int32.toNatClampNeg x1)) = 11
  · replace hq := hq.1 c52
    refine x_tin (tgt := 229) (off := 223) 11 c52 dX12_typeOf_6 (by decide) (by decide) (by decide) (by decide) ?_
    refine x_aload_n 0 dX12_typeOf_229 rfl ?_
    refine x_iload_n 1 dX12_typeOf_230 rfl ?_
    obtain ⟨g53, g54, hq⟩ := hq
    refine x_callV (Yc := YX12_arrayOf) (as := [.int x1]) (st := []) q4190 mvX12_arrayOf g1 rfl dX12_typeOf_231 (xle (xal1 (rv_cat _) (xal1 rfl xal0)) (by decide)) (xfr g53) (xlo xsw0 (by decide) g54) (xKr hq (fun x56 h55 hq e57 => ?_) (fun _ _ q _ => q))
    replace hq := hq e57
    exact x_aret rfl xty_O dX12_typeOf_234 hq
  replace hq := hq.2
  by_cases c58 : (aI h (fR h x0 3101) (Int32.toNatClampNeg x1)) = 12
  · replace hq := hq.1 c58
    refine x_tin (tgt := 235) (off := 229) 12 c58 dX12_typeOf_6 (by decide) (by decide) (by decide) (by decide) ?_
    obtain ⟨g59, g60, hq⟩ := hq
    obtain ⟨a61, e63⟩ : ∃ y, y = nx h + 1 := ⟨_, rfl⟩
    obtain ⟨h62, e64⟩ : ∃ y, y = nO h 14 8 := ⟨_, rfl⟩
    refine x_new' cdX12_94 dX12_typeOf_235 g59 g60 e63 e64 (fun f65 => ?_)
    replace hq := hq a61 h62 e63 e64 f65
    have t66 : tg h62 a61 = 14 := by rw [e64, e63]; exact tg_nO
    refine x_dup dX12_typeOf_238 (rv_cat _) ?_
    refine x_bipush (v := 8) dX12_typeOf_239 (by decide) ?_
    obtain ⟨g67, g68, hq⟩ := hq
    refine x_callI (Yc := YX13_init) (as := [.int 8]) (st := [rv a61]) q3209 miX13_init (by rw [t66]; decide) rfl dX12_typeOf_241 (xle (xal1 (rv_cat _) (xal1 rfl xal0)) (by decide)) (xfr g67) (xlo (xsw1 (rv_cat _) xsw0) (by decide) g68) (xKv hq (fun h69 hq e71 => ?_) (fun _ _ q _ => q))
    replace hq := hq e71
    refine x_astore_n (lv' := [(2, rv a61), (0, rv x0), (1, .int x1)]) dX12_typeOf_244 (by decide) rfl ?_
    refine x_aload_n 0 dX12_typeOf_245 rfl ?_
    refine x_lconst (v := 0) dX12_typeOf_246 (by decide) ?_
    have t72 : tg h69 a61 = 14 := e71.tg t66 (by decide)
    obtain ⟨h73, e74⟩ : ∃ y, y = sJ h69 a61 3334 0 := ⟨_, rfl⟩
    replace hq := hq h73 e74
    refine x_putJ fdX12_603 dX12_typeOf_247 t72 (Or.inl (by rw [t72]; rfl)) rfl e74 ?_
    refine x_aload_n 0 dX12_typeOf_250 rfl ?_
    obtain ⟨g75, g76, hq⟩ := hq
    obtain ⟨a77, e79⟩ : ∃ y, y = nx h73 + 1 := ⟨_, rfl⟩
    obtain ⟨h78, e80⟩ : ∃ y, y = nO h73 29 3 := ⟨_, rfl⟩
    refine x_new' cdX12_131 dX12_typeOf_251 g75 g76 e79 e80 (fun f81 => ?_)
    replace hq := hq a77 h78 e79 e80 f81
    have t82 : tg h78 a77 = 29 := by rw [e80, e79]; exact tg_nO
    refine x_dup dX12_typeOf_254 (rv_cat _) ?_
    obtain ⟨g83, g84, hq⟩ := hq
    refine x_callI (Yc := YJ2_init_2) (as := []) (st := [rv a77, rv a61]) q3246 miJ2_init_2 (by rw [t82]; decide) rfl dX12_typeOf_255 (xle (xal1 (rv_cat _) xal0) (by decide)) (xfr g83) (xlo (xsw1 (rv_cat _) (xsw1 (rv_cat _) xsw0)) (by decide) g84) (xKv hq (fun h85 hq e87 => ?_) (fun _ _ q _ => q))
    replace hq := hq e87
    have t88 : tg h73 a61 = 14 := by rw [e74]; exact t72
    have t89 : tg h78 a61 = 14 := by rw [e80]; exact tg_nO_ne e79 f81 t88 (by decide)
    have t90 : tg h85 a61 = 14 := e87.tg t89 (by decide)
    obtain ⟨h91, e92⟩ : ∃ y, y = sR h85 a61 3335 a77 := ⟨_, rfl⟩
    replace hq := hq h91 e92
    refine x_putR fdX12_852 xty_O dX12_typeOf_258 t90 (Or.inl (by rw [t90]; rfl)) rfl e92 ?_
    refine x_aload_n 1 dX12_typeOf_261 rfl ?_
    refine x_aload_n 1 dX12_typeOf_262 rfl ?_
    have t93 : tg h62 x0 = 13 := by rw [e64]; exact tg_nO_ne e63 f65 g1 (by decide)
    have t94 : tg h69 x0 = 13 := e71.tg t93 (by decide)
    have t95 : tg h73 x0 = 13 := by rw [e74]; exact t94
    have t96 : tg h78 x0 = 13 := by rw [e80]; exact tg_nO_ne e79 f81 t95 (by decide)
    have t97 : tg h85 x0 = 13 := e87.tg t96 (by decide)
    have t98 : tg h91 x0 = 13 := by rw [e92]; exact t97
    refine x_get (v := rv (fR h91 x0 3103)) fdX12_73 dX12_typeOf_263 t98 rfl ?_
    refine x_iload_n 2 dX12_typeOf_266 rfl ?_
    obtain ⟨g99, hq⟩ := hq
    obtain ⟨i100, hq⟩ := hq
    refine x_iald 0 (Or.inl rfl) g99 i100 dX12_typeOf_267 ?_
    refine x_aload_n 0 dX12_typeOf_268 rfl ?_
    refine x_null dX12_typeOf_269 ?_
    refine x_iconst (v := 0) dX12_typeOf_270 (by decide) ?_
    obtain ⟨g101, g102, hq⟩ := hq
    refine x_callV (Yc := YX12_fieldsOf) (as := [.int (aI h91 (fR h91 x0 3103) (Int32.toNatClampNeg x1)), rv a61, rv 0, .int 0]) (st := []) q4199 mvX12_fieldsOf t98 rfl dX12_typeOf_271 (xle (xal1 (rv_cat _) (xal1 rfl (xal1 (rv_cat _) (xal1 (rv_cat _) (xal1 rfl xal0))))) (by decide)) (xfr g101) (xlo xsw0 (by decide) g102) (xKv hq (fun h103 hq e105 => ?_) (fun _ _ q _ => q))
    replace hq := hq e105
    refine x_aload_n 0 dX12_typeOf_274 rfl ?_
    have t106 : tg h91 a61 = 14 := by rw [e92]; exact t90
    have t107 : tg h103 a61 = 14 := e105.tg t106 (by decide)
    refine x_get (v := .long (fJ h103 a61 3334)) fdX12_603 dX12_typeOf_275 t107 rfl ?_
    refine x_ldc2 (v := 5000) q4198 dX12_typeOf_278 ?_
    refine x_lcmp dX12_typeOf_281 ?_
    refine x_if_le (tgt := 297) dX12_typeOf_282 (by decide) (fun c108 => ?_) (fun c108 => ?_)
    · replace hq := hq.1 c108
      refine xP.pick (lv' := [(2, rv a61)]) [0] rfl ?_
      exact uX12_typeOf_297 hq
    · replace hq := hq.2 c108
      refine x_aload_n 1 dX12_typeOf_285 rfl ?_
      refine x_bipush (v := 8) dX12_typeOf_286 (by decide) ?_
      refine x_aload_n 1 dX12_typeOf_288 rfl ?_
      have t109 : tg h103 x0 = 13 := e105.tg t98 (by decide)
      refine x_get (v := rv (fR h103 x0 3102)) fdX12_70 dX12_typeOf_289 t109 rfl ?_
      refine x_iload_n 2 dX12_typeOf_292 rfl ?_
      obtain ⟨g110, hq⟩ := hq
      obtain ⟨i111, hq⟩ := hq
      refine x_iald 0 (Or.inl rfl) g110 i111 dX12_typeOf_293 ?_
      obtain ⟨g112, g113, hq⟩ := hq
      refine x_callV (Yc := YX12_refuse) (as := [.int 8, .int (aI h103 (fR h103 x0 3102) (Int32.toNatClampNeg x1))]) (st := []) q4095 mvX12_refuse t109 rfl dX12_typeOf_294 (xle (xal1 (rv_cat _) (xal1 rfl (xal1 rfl xal0))) (by decide)) (xfr g112) (xlo xsw0 (by decide) g113) (xKv hq (fun h114 hq e116 => ?_) (fun _ _ q _ => q))
      replace hq := hq e116
      refine xP.pick (lv' := [(2, rv a61)]) [0] rfl ?_
      exact uX12_typeOf_297 hq
  replace hq := hq.2
  by_cases c117 : (aI h (fR h x0 3101) (Int32.toNatClampNeg x1)) = 13
  · replace hq := hq.1 c117
    refine x_tin (tgt := 299) (off := 293) 13 c117 dX12_typeOf_6 (by decide) (by decide) (by decide) (by decide) ?_
    refine x_aload_n 0 dX12_typeOf_299 rfl ?_
    refine x_aload_n 0 dX12_typeOf_300 rfl ?_
    refine x_get (v := rv (fR h x0 3103)) fdX12_73 dX12_typeOf_301 g1 rfl ?_
    refine x_iload_n 1 dX12_typeOf_304 rfl ?_
    obtain ⟨g118, hq⟩ := hq
    obtain ⟨i119, hq⟩ := hq
    refine x_iald 0 (Or.inl rfl) g118 i119 dX12_typeOf_305 ?_
    obtain ⟨g120, g121, hq⟩ := hq
    refine x_callV (Yc := YX12_typeOf) (as := [.int (aI h (fR h x0 3103) (Int32.toNatClampNeg x1))]) (st := []) q4173 mvX12_typeOf g1 rfl dX12_typeOf_306 (xle (xal1 (rv_cat _) (xal1 rfl xal0)) (by decide)) (xfr g120) (xlo xsw0 (by decide) g121) (xKr hq (fun x123 h122 hq e124 => ?_) (fun _ _ q _ => q))
    replace hq := hq e124
    refine x_astore_n (lv' := [(3, rv x123), (0, rv x0), (1, .int x1)]) dX12_typeOf_309 (by decide) rfl ?_
    refine x_aload_n 0 dX12_typeOf_310 rfl ?_
    obtain ⟨g125, hq⟩ := hq
    obtain ⟨g126, g127, hq⟩ := hq
    refine x_callV (Yc := YX13_isOrdinal) (as := []) (st := []) q4185 mvX13_isOrdinal g125 rfl dX12_typeOf_311 (xle (xal1 (rv_cat _) xal0) (by decide)) (xfr g126) (xlo xsw0 (by decide) g127) (xKi hq (fun x129 h128 hq e130 => ?_) (fun _ _ q _ => q))
    replace hq := hq e130
    refine x_if_ne (tgt := 329) dX12_typeOf_314 (by decide) (fun c131 => ?_) (fun c131 => ?_)
    · replace hq := hq.1 c131
      refine xP.pick (lv' := [(0, rv x0), (1, .int x1), (3, rv x123)]) [1, 2, 0] rfl ?_
      exact uX12_typeOf_329 hq
    · replace hq := hq.2 c131
      refine x_aload_n 1 dX12_typeOf_317 rfl ?_
      refine x_bipush (v := 7) dX12_typeOf_318 (by decide) ?_
      refine x_aload_n 1 dX12_typeOf_320 rfl ?_
      have t132 : tg h122 x0 = 13 := e124.tg g1 (by decide)
      have t133 : tg h128 x0 = 13 := e130.tg t132 (by decide)
      refine x_get (v := rv (fR h128 x0 3102)) fdX12_70 dX12_typeOf_321 t133 rfl ?_
      refine x_iload_n 2 dX12_typeOf_324 rfl ?_
      obtain ⟨g134, hq⟩ := hq
      obtain ⟨i135, hq⟩ := hq
      refine x_iald 0 (Or.inl rfl) g134 i135 dX12_typeOf_325 ?_
      obtain ⟨g136, g137, hq⟩ := hq
      refine x_callV (Yc := YX12_refuse) (as := [.int 7, .int (aI h128 (fR h128 x0 3102) (Int32.toNatClampNeg x1))]) (st := []) q4095 mvX12_refuse t133 rfl dX12_typeOf_326 (xle (xal1 (rv_cat _) (xal1 rfl (xal1 rfl xal0))) (by decide)) (xfr g136) (xlo xsw0 (by decide) g137) (xKv hq (fun h138 hq e140 => ?_) (fun _ _ q _ => q))
      replace hq := hq e140
      refine xP.pick (lv' := [(0, rv x0), (1, .int x1), (3, rv x123)]) [1, 2, 0] rfl ?_
      exact uX12_typeOf_329 hq
  replace hq := hq.2
  by_cases c141 : (aI h (fR h x0 3101) (Int32.toNatClampNeg x1)) = 14
  · replace hq := hq.1 c141
    refine x_tin (tgt := 374) (off := 368) 14 c141 dX12_typeOf_6 (by decide) (by decide) (by decide) (by decide) ?_
    refine x_aload_n 0 dX12_typeOf_374 rfl ?_
    refine x_aload_n 0 dX12_typeOf_375 rfl ?_
    refine x_get (v := rv (fR h x0 3103)) fdX12_73 dX12_typeOf_376 g1 rfl ?_
    refine x_iload_n 1 dX12_typeOf_379 rfl ?_
    obtain ⟨g142, hq⟩ := hq
    obtain ⟨i143, hq⟩ := hq
    refine x_iald 0 (Or.inl rfl) g142 i143 dX12_typeOf_380 ?_
    obtain ⟨g144, g145, hq⟩ := hq
    refine x_callV (Yc := YX12_typeOf) (as := [.int (aI h (fR h x0 3103) (Int32.toNatClampNeg x1))]) (st := []) q4173 mvX12_typeOf g1 rfl dX12_typeOf_381 (xle (xal1 (rv_cat _) (xal1 rfl xal0)) (by decide)) (xfr g144) (xlo xsw0 (by decide) g145) (xKr hq (fun x147 h146 hq e148 => ?_) (fun _ _ q _ => q))
    replace hq := hq e148
    refine x_astore (lv' := [(4, rv x147), (0, rv x0), (1, .int x1)]) dX12_typeOf_384 (by decide) rfl ?_
    refine x_aload 0 dX12_typeOf_386 rfl ?_
    obtain ⟨g149, hq⟩ := hq
    refine x_get (v := .int (fI h146 x147 3328)) fdX12_845 dX12_typeOf_388 g149 rfl ?_
    refine x_bipush (v := 10) dX12_typeOf_391 (by decide) ?_
    refine x_icmp_ne (tgt := 408) dX12_typeOf_393 (by decide) (fun c150 => ?_) (fun c150 => ?_)
    · replace hq := hq.1 c150
      refine xP.pick (lv' := [(4, rv x147)]) [0] rfl ?_
      exact uX12_typeOf_408 hq
    · replace hq := hq.2 c150
      refine x_aload_n 1 dX12_typeOf_396 rfl ?_
      refine x_bipush (v := 7) dX12_typeOf_397 (by decide) ?_
      refine x_aload_n 1 dX12_typeOf_399 rfl ?_
      have t151 : tg h146 x0 = 13 := e148.tg g1 (by decide)
      refine x_get (v := rv (fR h146 x0 3102)) fdX12_70 dX12_typeOf_400 t151 rfl ?_
      refine x_iload_n 2 dX12_typeOf_403 rfl ?_
      obtain ⟨g152, hq⟩ := hq
      obtain ⟨i153, hq⟩ := hq
      refine x_iald 0 (Or.inl rfl) g152 i153 dX12_typeOf_404 ?_
      obtain ⟨g154, g155, hq⟩ := hq
      refine x_callV (Yc := YX12_refuse) (as := [.int 7, .int (aI h146 (fR h146 x0 3102) (Int32.toNatClampNeg x1))]) (st := []) q4095 mvX12_refuse t151 rfl dX12_typeOf_405 (xle (xal1 (rv_cat _) (xal1 rfl (xal1 rfl xal0))) (by decide)) (xfr g154) (xlo xsw0 (by decide) g155) (xKv hq (fun h156 hq e158 => ?_) (fun _ _ q _ => q))
      replace hq := hq e158
      refine xP.pick (lv' := [(4, rv x147)]) [0] rfl ?_
      exact uX12_typeOf_408 hq
  replace hq := hq.2
  by_cases c159 : (aI h (fR h x0 3101) (Int32.toNatClampNeg x1)) = 15
  · replace hq := hq.1 c159
    refine x_tin (tgt := 137) (off := 131) 15 c159 dX12_typeOf_6 (by decide) (by decide) (by decide) (by decide) ?_
    obtain ⟨g160, g161, hq⟩ := hq
    obtain ⟨a162, e164⟩ : ∃ y, y = nx h + 1 := ⟨_, rfl⟩
    obtain ⟨h163, e165⟩ : ∃ y, y = nO h 14 8 := ⟨_, rfl⟩
    refine x_new' cdX12_94 dX12_typeOf_137 g160 g161 e164 e165 (fun f166 => ?_)
    replace hq := hq a162 h163 e164 e165 f166
    have t167 : tg h163 a162 = 14 := by rw [e165, e164]; exact tg_nO
    refine x_dup dX12_typeOf_140 (rv_cat _) ?_
    refine x_iconst (v := 5) dX12_typeOf_141 (by decide) ?_
    obtain ⟨g168, g169, hq⟩ := hq
    refine x_callI (Yc := YX13_init) (as := [.int 5]) (st := [rv a162]) q3209 miX13_init (by rw [t167]; decide) rfl dX12_typeOf_142 (xle (xal1 (rv_cat _) (xal1 rfl xal0)) (by decide)) (xfr g168) (xlo (xsw1 (rv_cat _) xsw0) (by decide) g169) (xKv hq (fun h170 hq e172 => ?_) (fun _ _ q _ => q))
    replace hq := hq e172
    refine x_astore_n (lv' := [(2, rv a162), (0, rv x0), (1, .int x1)]) dX12_typeOf_145 (by decide) rfl ?_
    refine x_aload_n 0 dX12_typeOf_146 rfl ?_
    refine x_iconst (v := (-1)) dX12_typeOf_147 (by decide) ?_
    have t173 : tg h170 a162 = 14 := e172.tg t167 (by decide)
    obtain ⟨h174, e175⟩ : ∃ y, y = sI h170 a162 3330 (-1) := ⟨_, rfl⟩
    replace hq := hq h174 e175
    refine x_putI fdX12_595 xty_I1 dX12_typeOf_148 t173 (Or.inl (by rw [t173]; rfl)) xnI rfl e175 ?_
    refine x_aload_n 1 dX12_typeOf_151 rfl ?_
    have t176 : tg h163 x0 = 13 := by rw [e165]; exact tg_nO_ne e164 f166 g1 (by decide)
    have t177 : tg h170 x0 = 13 := e172.tg t176 (by decide)
    have t178 : tg h174 x0 = 13 := by rw [e175]; exact t177
    refine x_get (v := rv (fR h174 x0 3103)) fdX12_73 dX12_typeOf_152 t178 rfl ?_
    refine x_aload_n 1 dX12_typeOf_155 rfl ?_
    refine x_get (v := rv (fR h174 x0 3103)) fdX12_73 dX12_typeOf_156 t178 rfl ?_
    refine x_iload_n 2 dX12_typeOf_159 rfl ?_
    obtain ⟨g179, hq⟩ := hq
    obtain ⟨i180, hq⟩ := hq
    refine x_iald 0 (Or.inl rfl) g179 i180 dX12_typeOf_160 ?_
    obtain ⟨i181, hq⟩ := hq
    refine x_iald 0 (Or.inl rfl) g179 i181 dX12_typeOf_161 ?_
    refine x_istore_n (lv' := [(3, .int (aI h174 (fR h174 x0 3103) (Int32.toNatClampNeg (aI h174 (fR h174 x0 3103) (Int32.toNatClampNeg x1))))), (2, rv a162), (0, rv x0), (1, .int x1)]) dX12_typeOf_162 (by decide) (by first | rfl | (simp [rv_cat, Value.category]; done) | (simp [rv_cat, Value.category]; decide)) ?_
    refine xP.pick (lv' := [(0, rv x0), (2, rv a162), (3, .int (aI h174 (fR h174 x0 3103) (Int32.toNatClampNeg (aI h174 (fR h174 x0 3103) (Int32.toNatClampNeg x1)))))]) [2, 1, 0] rfl ?_
    exact hq
  replace hq := hq.2
  by_cases c182 : (aI h (fR h x0 3101) (Int32.toNatClampNeg x1)) = 16
  · replace hq := hq.1 c182
    refine x_tin (tgt := 223) (off := 217) 16 c182 dX12_typeOf_6 (by decide) (by decide) (by decide) (by decide) ?_
    refine x_aload_n 0 dX12_typeOf_223 rfl ?_
    refine x_iload_n 1 dX12_typeOf_224 rfl ?_
    obtain ⟨g183, g184, hq⟩ := hq
    refine x_callV (Yc := YX12_rangeOf) (as := [.int x1]) (st := []) q4181 mvX12_rangeOf g1 rfl dX12_typeOf_225 (xle (xal1 (rv_cat _) (xal1 rfl xal0)) (by decide)) (xfr g183) (xlo xsw0 (by decide) g184) (xKr hq (fun x186 h185 hq e187 => ?_) (fun _ _ q _ => q))
    replace hq := hq e187
    exact x_aret rfl xty_O dX12_typeOf_228 hq
  replace hq := hq.2
  by_cases c188 : (aI h (fR h x0 3101) (Int32.toNatClampNeg x1)) = 17
  · replace hq := hq.1 c188
    refine x_tin (tgt := 122) (off := 116) 17 c188 dX12_typeOf_6 (by decide) (by decide) (by decide) (by decide) ?_
    refine x_aload_n 0 dX12_typeOf_122 rfl ?_
    refine x_aload_n 0 dX12_typeOf_123 rfl ?_
    refine x_get (v := rv (fR h x0 3102)) fdX12_70 dX12_typeOf_124 g1 rfl ?_
    refine x_iload_n 1 dX12_typeOf_127 rfl ?_
    obtain ⟨g189, hq⟩ := hq
    obtain ⟨i190, hq⟩ := hq
    refine x_iald 0 (Or.inl rfl) g189 i190 dX12_typeOf_128 ?_
    refine x_iconst (v := 2) dX12_typeOf_129 (by decide) ?_
    obtain ⟨g191, g192, hq⟩ := hq
    refine x_callV (Yc := YX12_findOf) (as := [.int (aI h (fR h x0 3102) (Int32.toNatClampNeg x1)), .int 2]) (st := []) q4157 mvX12_findOf g1 rfl dX12_typeOf_130 (xle (xal1 (rv_cat _) (xal1 rfl (xal1 rfl xal0))) (by decide)) (xfr g191) (xlo xsw0 (by decide) g192) (xKr hq (fun x194 h193 hq e195 => ?_) (fun _ _ q _ => q))
    replace hq := hq e195
    obtain ⟨g196, hq⟩ := hq
    refine x_get (v := rv (fR h193 x194 5890)) fdX12_612 dX12_typeOf_133 g196 rfl ?_
    exact x_aret rfl xty_O dX12_typeOf_136 hq
  replace hq := hq.2
  replace hq := hq c4 c52 c58 c117 c141 c159 c182 c188
  have nc4 := lv_neT c4 (show (10 : Int32).toInt = 10 from by decide)
  have nc52 := lv_neT c52 (show (11 : Int32).toInt = 11 from by decide)
  have nc58 := lv_neT c58 (show (12 : Int32).toInt = 12 from by decide)
  have nc117 := lv_neT c117 (show (13 : Int32).toInt = 13 from by decide)
  have nc141 := lv_neT c141 (show (14 : Int32).toInt = 14 from by decide)
  have nc159 := lv_neT c159 (show (15 : Int32).toInt = 15 from by decide)
  have nc182 := lv_neT c182 (show (16 : Int32).toInt = 16 from by decide)
  have nc188 := lv_neT c188 (show (17 : Int32).toInt = 17 from by decide)
  refine x_tout (tgt := 374) dX12_typeOf_6 (by omega) (by decide) ?_
  refine x_aload_n 0 dX12_typeOf_374 rfl ?_
  refine x_aload_n 0 dX12_typeOf_375 rfl ?_
  refine x_get (v := rv (fR h x0 3103)) fdX12_73 dX12_typeOf_376 g1 rfl ?_
  refine x_iload_n 1 dX12_typeOf_379 rfl ?_
  obtain ⟨g197, hq⟩ := hq
  obtain ⟨i198, hq⟩ := hq
  refine x_iald 0 (Or.inl rfl) g197 i198 dX12_typeOf_380 ?_
  obtain ⟨g199, g200, hq⟩ := hq
  refine x_callV (Yc := YX12_typeOf) (as := [.int (aI h (fR h x0 3103) (Int32.toNatClampNeg x1))]) (st := []) q4173 mvX12_typeOf g1 rfl dX12_typeOf_381 (xle (xal1 (rv_cat _) (xal1 rfl xal0)) (by decide)) (xfr g199) (xlo xsw0 (by decide) g200) (xKr hq (fun x202 h201 hq e203 => ?_) (fun _ _ q _ => q))
  replace hq := hq e203
  refine x_astore (lv' := [(4, rv x202), (0, rv x0), (1, .int x1)]) dX12_typeOf_384 (by decide) rfl ?_
  refine x_aload 0 dX12_typeOf_386 rfl ?_
  obtain ⟨g204, hq⟩ := hq
  refine x_get (v := .int (fI h201 x202 3328)) fdX12_845 dX12_typeOf_388 g204 rfl ?_
  refine x_bipush (v := 10) dX12_typeOf_391 (by decide) ?_
  refine x_icmp_ne (tgt := 408) dX12_typeOf_393 (by decide) (fun c205 => ?_) (fun c205 => ?_)
  · replace hq := hq.1 c205
    refine xP.pick (lv' := [(4, rv x202)]) [0] rfl ?_
    exact uX12_typeOf_408 hq
  · replace hq := hq.2 c205
    refine x_aload_n 1 dX12_typeOf_396 rfl ?_
    refine x_bipush (v := 7) dX12_typeOf_397 (by decide) ?_
    refine x_aload_n 1 dX12_typeOf_399 rfl ?_
    have t206 : tg h201 x0 = 13 := e203.tg g1 (by decide)
    refine x_get (v := rv (fR h201 x0 3102)) fdX12_70 dX12_typeOf_400 t206 rfl ?_
    refine x_iload_n 2 dX12_typeOf_403 rfl ?_
    obtain ⟨g207, hq⟩ := hq
    obtain ⟨i208, hq⟩ := hq
    refine x_iald 0 (Or.inl rfl) g207 i208 dX12_typeOf_404 ?_
    obtain ⟨g209, g210, hq⟩ := hq
    refine x_callV (Yc := YX12_refuse) (as := [.int 7, .int (aI h201 (fR h201 x0 3102) (Int32.toNatClampNeg x1))]) (st := []) q4095 mvX12_refuse t206 rfl dX12_typeOf_405 (xle (xal1 (rv_cat _) (xal1 rfl (xal1 rfl xal0))) (by decide)) (xfr g209) (xlo xsw0 (by decide) g210) (xKv hq (fun h211 hq e213 => ?_) (fun _ _ q _ => q))
    replace hq := hq e213
    refine xP.pick (lv' := [(4, rv x202)]) [0] rfl ?_
    exact uX12_typeOf_408 hq
theorem rX12_typeOf {G : xG} {fr lo : Nat} {x0 : Nat} {x1 : Int32} {h : xH} {Q : Outcome → xH → Prop} (hq : bX12_typeOf G fr lo x0 x1 h Q) : xR G YX12_typeOf fr lo [rv x0, .int x1] h Q := by
  show xP _ _ _ _ _ (lv_args 0 _) _ _ _
  rw [show lv_args 0 [rv x0, .int x1] = [(0, rv x0), (1, .int x1)] from (xla1 (rv_cat _) (xla1 rfl xla0))]
  exact uX12_typeOf hq
set_option maxRecDepth 100000 in
theorem dX12_point_0 : decode cX12_point 0 = .ok (.aload_n 0, 1) := by decide +kernel
set_option maxRecDepth 100000 in
theorem dX12_point_1 : decode cX12_point 1 = .ok (.iload_n 2, 1) := by decide +kernel
set_option maxRecDepth 100000 in
theorem dX12_point_2 : decode cX12_point 2 = .ok (.iconst 2, 1) := by decide +kernel
set_option maxRecDepth 100000 in
theorem dX12_point_3 : decode cX12_point 3 = .ok (.invokevirtual 838, 3) := by decide +kernel
set_option maxRecDepth 100000 in
theorem dX12_point_6 : decode cX12_point 6 = .ok (.getfield 612, 3) := by decide +kernel
set_option maxRecDepth 100000 in
theorem dX12_point_9 : decode cX12_point 9 = .ok (.astore_n 3, 1) := by decide +kernel
set_option maxRecDepth 100000 in
theorem dX12_point_10 : decode cX12_point 10 = .ok (.aload_n 3, 1) := by decide +kernel
set_option maxRecDepth 100000 in
theorem dX12_point_11 : decode cX12_point 11 = .ok (.getfield 845, 3) := by decide +kernel
set_option maxRecDepth 100000 in
theorem dX12_point_14 : decode cX12_point 14 = .ok (.bipush 10, 2) := by decide +kernel
set_option maxRecDepth 100000 in
theorem dX12_point_16 : decode cX12_point 16 = .ok (.if_icmp .ne 10, 3) := by decide +kernel
set_option maxRecDepth 100000 in
theorem dX12_point_19 : decode cX12_point 19 = .ok (.aload_n 0, 1) := by decide +kernel
set_option maxRecDepth 100000 in
theorem dX12_point_20 : decode cX12_point 20 = .ok (.bipush 7, 2) := by decide +kernel
set_option maxRecDepth 100000 in
theorem dX12_point_22 : decode cX12_point 22 = .ok (.iload_n 2, 1) := by decide +kernel
set_option maxRecDepth 100000 in
theorem dX12_point_23 : decode cX12_point 23 = .ok (.invokevirtual 570, 3) := by decide +kernel
set_option maxRecDepth 100000 in
theorem dX12_point_26 : decode cX12_point 26 = .ok (.aload_n 1, 1) := by decide +kernel
set_option maxRecDepth 100000 in
theorem dX12_point_27 : decode cX12_point 27 = .ok (.aload_n 3, 1) := by decide +kernel
set_option maxRecDepth 100000 in
theorem dX12_point_28 : decode cX12_point 28 = .ok (.putfield 598, 3) := by decide +kernel
set_option maxRecDepth 100000 in
theorem dX12_point_31 : decode cX12_point 31 = .ok (.return_, 1) := by decide +kernel
set_option maxRecDepth 100000 in
def bX12_point_26 (G : xG) (fr lo : Nat) (x1 : Nat) (x3 : Nat) (h : xH) (Q : Outcome → xH → Prop) : Prop := tg h x1 = 14 ∧ (∀ h2 : xH, h2 = sR h x1 3333 x3 → Q (.returned none) h2)
set_option maxRecDepth 100000 in
theorem uX12_point_26 {G : xG} {fr lo : Nat} {x1 : Nat} {x3 : Nat} {h : xH} {Q : Outcome → xH → Prop} (hq : bX12_point_26 G fr lo x1 x3 h Q) : xP G YX12_point fr lo 26 [(1, rv x1), (3, rv x3)] [] h Q := by
  unfold bX12_point_26 at hq
  refine x_aload_n 0 dX12_point_26 rfl ?_
  refine x_aload_n 1 dX12_point_27 rfl ?_
  obtain ⟨g1, hq⟩ := hq
  obtain ⟨h2, e3⟩ : ∃ y, y = sR h x1 3333 x3 := ⟨_, rfl⟩
  replace hq := hq h2 e3
  refine x_putR fdX12_598 xty_O dX12_point_28 g1 (Or.inl (by rw [g1]; rfl)) rfl e3 ?_
  exact x_vret rfl dX12_point_31 hq
set_option maxRecDepth 100000 in
def bX12_point (G : xG) (fr lo : Nat) (x0 : Nat) (x1 : Nat) (x2 : Int32) (h : xH) (Q : Outcome → xH → Prop) : Prop := tg h x0 = 13 ∧ 1 ≤ fr ∧ 15 ≤ lo ∧ xRr G YX12_findOf (fr - 1) (lo - 15) [rv x0, .int x2, .int 2] h (fun x5 h4 => xext h h4 → tg h4 x5 = 24 ∧ tg h4 (fR h4 x5 5890) = 14 ∧ ((¬ (fI h4 (fR h4 x5 5890) 3328) = 10 → bX12_point_26 G fr lo x1 (fR h4 x5 5890) h4 Q) ∧ ((fI h4 (fR h4 x5 5890) 3328) = 10 → 1 ≤ fr ∧ 14 ≤ lo ∧ xRv G YX12_refuse (fr - 1) (lo - 14) [rv x0, .int 7, .int x2] h4 (fun h13 => xext h4 h13 → bX12_point_26 G fr lo x1 (fR h4 x5 5890) h13 Q) (fun r h2 => Q (.threw r) h2)))) (fun r h2 => Q (.threw r) h2)
set_option maxRecDepth 100000 in
theorem uX12_point {G : xG} {fr lo : Nat} {x0 : Nat} {x1 : Nat} {x2 : Int32} {h : xH} {Q : Outcome → xH → Prop} (hq : bX12_point G fr lo x0 x1 x2 h Q) : xP G YX12_point fr lo 0 [(0, rv x0), (1, rv x1), (2, .int x2)] [] h Q := by
  unfold bX12_point at hq
  refine x_aload_n 0 dX12_point_0 rfl ?_
  refine x_iload_n 2 dX12_point_1 rfl ?_
  refine x_iconst (v := 2) dX12_point_2 (by decide) ?_
  obtain ⟨g1, hq⟩ := hq
  obtain ⟨g2, g3, hq⟩ := hq
  refine x_callV (Yc := YX12_findOf) (as := [.int x2, .int 2]) (st := []) q4157 mvX12_findOf g1 rfl dX12_point_3 (xle (xal1 (rv_cat _) (xal1 rfl (xal1 rfl xal0))) (by decide)) (xfr g2) (xlo xsw0 (by decide) g3) (xKr hq (fun x5 h4 hq e6 => ?_) (fun _ _ q _ => q))
  replace hq := hq e6
  obtain ⟨g7, hq⟩ := hq
  refine x_get (v := rv (fR h4 x5 5890)) fdX12_612 dX12_point_6 g7 rfl ?_
  refine x_astore_n (lv' := [(3, rv (fR h4 x5 5890)), (0, rv x0), (1, rv x1), (2, .int x2)]) dX12_point_9 (by decide) rfl ?_
  refine x_aload_n 0 dX12_point_10 rfl ?_
  obtain ⟨g8, hq⟩ := hq
  refine x_get (v := .int (fI h4 (fR h4 x5 5890) 3328)) fdX12_845 dX12_point_11 g8 rfl ?_
  refine x_bipush (v := 10) dX12_point_14 (by decide) ?_
  refine x_icmp_ne (tgt := 26) dX12_point_16 (by decide) (fun c9 => ?_) (fun c9 => ?_)
  · replace hq := hq.1 c9
    refine xP.pick (lv' := [(1, rv x1), (3, rv (fR h4 x5 5890))]) [2, 0] rfl ?_
    exact uX12_point_26 hq
  · replace hq := hq.2 c9
    refine x_aload_n 1 dX12_point_19 rfl ?_
    refine x_bipush (v := 7) dX12_point_20 (by decide) ?_
    refine x_iload_n 3 dX12_point_22 rfl ?_
    have t10 : tg h4 x0 = 13 := e6.tg g1 (by decide)
    obtain ⟨g11, g12, hq⟩ := hq
    refine x_callV (Yc := YX12_refuse) (as := [.int 7, .int x2]) (st := []) q4095 mvX12_refuse t10 rfl dX12_point_23 (xle (xal1 (rv_cat _) (xal1 rfl (xal1 rfl xal0))) (by decide)) (xfr g11) (xlo xsw0 (by decide) g12) (xKv hq (fun h13 hq e15 => ?_) (fun _ _ q _ => q))
    replace hq := hq e15
    refine xP.pick (lv' := [(1, rv x1), (3, rv (fR h4 x5 5890))]) [2, 0] rfl ?_
    exact uX12_point_26 hq
theorem rX12_point {G : xG} {fr lo : Nat} {x0 : Nat} {x1 : Nat} {x2 : Int32} {h : xH} {Q : Outcome → xH → Prop} (hq : bX12_point G fr lo x0 x1 x2 h Q) : xR G YX12_point fr lo [rv x0, rv x1, .int x2] h Q := by
  show xP _ _ _ _ _ (lv_args 0 _) _ _ _
  rw [show lv_args 0 [rv x0, rv x1, .int x2] = [(0, rv x0), (1, rv x1), (2, .int x2)] from (xla1 (rv_cat _) (xla1 (rv_cat _) (xla1 rfl xla0)))]
  exact uX12_point hq
set_option maxRecDepth 100000 in
theorem dX12_rangeOf_0 : decode cX12_rangeOf 0 = .ok (.aload_n 0, 1) := by decide +kernel
set_option maxRecDepth 100000 in
theorem dX12_rangeOf_1 : decode cX12_rangeOf 1 = .ok (.aload_n 0, 1) := by decide +kernel
set_option maxRecDepth 100000 in
theorem dX12_rangeOf_2 : decode cX12_rangeOf 2 = .ok (.getfield 73, 3) := by decide +kernel
set_option maxRecDepth 100000 in
theorem dX12_rangeOf_5 : decode cX12_rangeOf 5 = .ok (.iload_n 1, 1) := by decide +kernel
set_option maxRecDepth 100000 in
theorem dX12_rangeOf_6 : decode cX12_rangeOf 6 = .ok (.iaload, 1) := by decide +kernel
set_option maxRecDepth 100000 in
theorem dX12_rangeOf_7 : decode cX12_rangeOf 7 = .ok (.invokevirtual 754, 3) := by decide +kernel
set_option maxRecDepth 100000 in
theorem dX12_rangeOf_10 : decode cX12_rangeOf 10 = .ok (.aload_n 0, 1) := by decide +kernel
set_option maxRecDepth 100000 in
theorem dX12_rangeOf_11 : decode cX12_rangeOf 11 = .ok (.getfield 757, 3) := by decide +kernel
set_option maxRecDepth 100000 in
theorem dX12_rangeOf_14 : decode cX12_rangeOf 14 = .ok (.astore_n 2, 1) := by decide +kernel
set_option maxRecDepth 100000 in
theorem dX12_rangeOf_15 : decode cX12_rangeOf 15 = .ok (.aload_n 0, 1) := by decide +kernel
set_option maxRecDepth 100000 in
theorem dX12_rangeOf_16 : decode cX12_rangeOf 16 = .ok (.getfield 760, 3) := by decide +kernel
set_option maxRecDepth 100000 in
theorem dX12_rangeOf_19 : decode cX12_rangeOf 19 = .ok (.lstore_n 3, 1) := by decide +kernel
set_option maxRecDepth 100000 in
theorem dX12_rangeOf_20 : decode cX12_rangeOf 20 = .ok (.aload_n 0, 1) := by decide +kernel
set_option maxRecDepth 100000 in
theorem dX12_rangeOf_21 : decode cX12_rangeOf 21 = .ok (.aload_n 0, 1) := by decide +kernel
set_option maxRecDepth 100000 in
theorem dX12_rangeOf_22 : decode cX12_rangeOf 22 = .ok (.iload_n 1, 1) := by decide +kernel
set_option maxRecDepth 100000 in
theorem dX12_rangeOf_23 : decode cX12_rangeOf 23 = .ok (.iconst 1, 1) := by decide +kernel
set_option maxRecDepth 100000 in
theorem dX12_rangeOf_24 : decode cX12_rangeOf 24 = .ok (.invokevirtual 734, 3) := by decide +kernel
set_option maxRecDepth 100000 in
theorem dX12_rangeOf_27 : decode cX12_rangeOf 27 = .ok (.invokevirtual 754, 3) := by decide +kernel
set_option maxRecDepth 100000 in
theorem dX12_rangeOf_30 : decode cX12_rangeOf 30 = .ok (.aload_n 2, 1) := by decide +kernel
set_option maxRecDepth 100000 in
theorem dX12_rangeOf_31 : decode cX12_rangeOf 31 = .ok (.invokevirtual 861, 3) := by decide +kernel
set_option maxRecDepth 100000 in
theorem dX12_rangeOf_34 : decode cX12_rangeOf 34 = .ok (.ifCond .eq 27, 3) := by decide +kernel
set_option maxRecDepth 100000 in
theorem dX12_rangeOf_37 : decode cX12_rangeOf 37 = .ok (.aload_n 0, 1) := by decide +kernel
set_option maxRecDepth 100000 in
theorem dX12_rangeOf_38 : decode cX12_rangeOf 38 = .ok (.getfield 757, 3) := by decide +kernel
set_option maxRecDepth 100000 in
theorem dX12_rangeOf_41 : decode cX12_rangeOf 41 = .ok (.invokevirtual 861, 3) := by decide +kernel
set_option maxRecDepth 100000 in
theorem dX12_rangeOf_44 : decode cX12_rangeOf 44 = .ok (.ifCond .eq 17, 3) := by decide +kernel
set_option maxRecDepth 100000 in
theorem dX12_rangeOf_47 : decode cX12_rangeOf 47 = .ok (.aload_n 2, 1) := by decide +kernel
set_option maxRecDepth 100000 in
theorem dX12_rangeOf_48 : decode cX12_rangeOf 48 = .ok (.invokevirtual 867, 3) := by decide +kernel
set_option maxRecDepth 100000 in
theorem dX12_rangeOf_51 : decode cX12_rangeOf 51 = .ok (.aload_n 0, 1) := by decide +kernel
set_option maxRecDepth 100000 in
theorem dX12_rangeOf_52 : decode cX12_rangeOf 52 = .ok (.getfield 757, 3) := by decide +kernel
set_option maxRecDepth 100000 in
theorem dX12_rangeOf_55 : decode cX12_rangeOf 55 = .ok (.invokevirtual 867, 3) := by decide +kernel
set_option maxRecDepth 100000 in
theorem dX12_rangeOf_58 : decode cX12_rangeOf 58 = .ok (.if_acmp .eq 15, 3) := by decide +kernel
set_option maxRecDepth 100000 in
theorem dX12_rangeOf_61 : decode cX12_rangeOf 61 = .ok (.aload_n 0, 1) := by decide +kernel
set_option maxRecDepth 100000 in
theorem dX12_rangeOf_62 : decode cX12_rangeOf 62 = .ok (.bipush 7, 2) := by decide +kernel
set_option maxRecDepth 100000 in
theorem dX12_rangeOf_64 : decode cX12_rangeOf 64 = .ok (.aload_n 0, 1) := by decide +kernel
set_option maxRecDepth 100000 in
theorem dX12_rangeOf_65 : decode cX12_rangeOf 65 = .ok (.getfield 82, 3) := by decide +kernel
set_option maxRecDepth 100000 in
theorem dX12_rangeOf_68 : decode cX12_rangeOf 68 = .ok (.iload_n 1, 1) := by decide +kernel
set_option maxRecDepth 100000 in
theorem dX12_rangeOf_69 : decode cX12_rangeOf 69 = .ok (.iaload, 1) := by decide +kernel
set_option maxRecDepth 100000 in
theorem dX12_rangeOf_70 : decode cX12_rangeOf 70 = .ok (.invokevirtual 570, 3) := by decide +kernel
set_option maxRecDepth 100000 in
theorem dX12_rangeOf_73 : decode cX12_rangeOf 73 = .ok (.lload_n 3, 1) := by decide +kernel
set_option maxRecDepth 100000 in
theorem dX12_rangeOf_74 : decode cX12_rangeOf 74 = .ok (.aload_n 0, 1) := by decide +kernel
set_option maxRecDepth 100000 in
theorem dX12_rangeOf_75 : decode cX12_rangeOf 75 = .ok (.getfield 760, 3) := by decide +kernel
set_option maxRecDepth 100000 in
theorem dX12_rangeOf_78 : decode cX12_rangeOf 78 = .ok (.lcmp, 1) := by decide +kernel
set_option maxRecDepth 100000 in
theorem dX12_rangeOf_79 : decode cX12_rangeOf 79 = .ok (.ifCond .le 15, 3) := by decide +kernel
set_option maxRecDepth 100000 in
theorem dX12_rangeOf_82 : decode cX12_rangeOf 82 = .ok (.aload_n 0, 1) := by decide +kernel
set_option maxRecDepth 100000 in
theorem dX12_rangeOf_83 : decode cX12_rangeOf 83 = .ok (.bipush 8, 2) := by decide +kernel
set_option maxRecDepth 100000 in
theorem dX12_rangeOf_85 : decode cX12_rangeOf 85 = .ok (.aload_n 0, 1) := by decide +kernel
set_option maxRecDepth 100000 in
theorem dX12_rangeOf_86 : decode cX12_rangeOf 86 = .ok (.getfield 82, 3) := by decide +kernel
set_option maxRecDepth 100000 in
theorem dX12_rangeOf_89 : decode cX12_rangeOf 89 = .ok (.iload_n 1, 1) := by decide +kernel
set_option maxRecDepth 100000 in
theorem dX12_rangeOf_90 : decode cX12_rangeOf 90 = .ok (.iaload, 1) := by decide +kernel
set_option maxRecDepth 100000 in
theorem dX12_rangeOf_91 : decode cX12_rangeOf 91 = .ok (.invokevirtual 570, 3) := by decide +kernel
set_option maxRecDepth 100000 in
theorem dX12_rangeOf_94 : decode cX12_rangeOf 94 = .ok (.new 94, 3) := by decide +kernel
set_option maxRecDepth 100000 in
theorem dX12_rangeOf_97 : decode cX12_rangeOf 97 = .ok (.dup, 1) := by decide +kernel
set_option maxRecDepth 100000 in
theorem dX12_rangeOf_98 : decode cX12_rangeOf 98 = .ok (.bipush 6, 2) := by decide +kernel
set_option maxRecDepth 100000 in
theorem dX12_rangeOf_100 : decode cX12_rangeOf 100 = .ok (.invokespecial 106, 3) := by decide +kernel
set_option maxRecDepth 100000 in
theorem dX12_rangeOf_103 : decode cX12_rangeOf 103 = .ok (.astore 5, 2) := by decide +kernel
set_option maxRecDepth 100000 in
theorem dX12_rangeOf_105 : decode cX12_rangeOf 105 = .ok (.aload 5, 2) := by decide +kernel
set_option maxRecDepth 100000 in
theorem dX12_rangeOf_107 : decode cX12_rangeOf 107 = .ok (.aload_n 2, 1) := by decide +kernel
set_option maxRecDepth 100000 in
theorem dX12_rangeOf_108 : decode cX12_rangeOf 108 = .ok (.invokevirtual 867, 3) := by decide +kernel
set_option maxRecDepth 100000 in
theorem dX12_rangeOf_111 : decode cX12_rangeOf 111 = .ok (.putfield 871, 3) := by decide +kernel
set_option maxRecDepth 100000 in
theorem dX12_rangeOf_114 : decode cX12_rangeOf 114 = .ok (.aload 5, 2) := by decide +kernel
set_option maxRecDepth 100000 in
theorem dX12_rangeOf_116 : decode cX12_rangeOf 116 = .ok (.lload_n 3, 1) := by decide +kernel
set_option maxRecDepth 100000 in
theorem dX12_rangeOf_117 : decode cX12_rangeOf 117 = .ok (.l2i, 1) := by decide +kernel
set_option maxRecDepth 100000 in
theorem dX12_rangeOf_118 : decode cX12_rangeOf 118 = .ok (.putfield 591, 3) := by decide +kernel
set_option maxRecDepth 100000 in
theorem dX12_rangeOf_121 : decode cX12_rangeOf 121 = .ok (.aload 5, 2) := by decide +kernel
set_option maxRecDepth 100000 in
theorem dX12_rangeOf_123 : decode cX12_rangeOf 123 = .ok (.aload_n 0, 1) := by decide +kernel
set_option maxRecDepth 100000 in
theorem dX12_rangeOf_124 : decode cX12_rangeOf 124 = .ok (.getfield 760, 3) := by decide +kernel
set_option maxRecDepth 100000 in
theorem dX12_rangeOf_127 : decode cX12_rangeOf 127 = .ok (.l2i, 1) := by decide +kernel
set_option maxRecDepth 100000 in
theorem dX12_rangeOf_128 : decode cX12_rangeOf 128 = .ok (.putfield 595, 3) := by decide +kernel
set_option maxRecDepth 100000 in
theorem dX12_rangeOf_131 : decode cX12_rangeOf 131 = .ok (.aload 5, 2) := by decide +kernel
set_option maxRecDepth 100000 in
theorem dX12_rangeOf_133 : decode cX12_rangeOf 133 = .ok (.areturn, 1) := by decide +kernel
set_option maxRecDepth 100000 in
def bX12_rangeOf_94 (G : xG) (fr lo : Nat) (x0 : Nat) (x2 : Nat) (x3 : Int64) (h : xH) (Q : Outcome → xH → Prop) : Prop := nx h + 1 ≤ xGN G ∧ us h + 8 ≤ xGU G ∧ (∀ (a3 : Nat) (h4 : xH), a3 = nx h + 1 → h4 = nO h 14 8 → xfresh h a3 → 1 ≤ fr ∧ 14 ≤ lo ∧ xRv G YX13_init (fr - 1) (lo - 14) [rv a3, .int 6] h4 (fun h11 => xext h4 h11 → tg h11 x2 = 14 ∧ 1 ≤ fr ∧ 13 ≤ lo ∧ xRr G YX13_own (fr - 1) (lo - 13) [rv x2] h11 (fun x18 h17 => xext h11 h17 → (∀ h22 : xH, h22 = sR h17 a3 3331 x18 → (∀ h25 : xH, h25 = sI h22 a3 3329 (Int64.toInt32 x3) → tg h25 x0 = 13 ∧ (∀ h29 : xH, h29 = sI h25 a3 3330 (Int64.toInt32 (fJ h25 x0 3139)) → Q (.returned (some (rv a3))) h29)))) (fun r h2 => Q (.threw r) h2)) (fun r h2 => Q (.threw r) h2))
set_option maxRecDepth 100000 in
theorem uX12_rangeOf_94 {G : xG} {fr lo : Nat} {x0 : Nat} {x2 : Nat} {x3 : Int64} {h : xH} {Q : Outcome → xH → Prop} (hq : bX12_rangeOf_94 G fr lo x0 x2 x3 h Q) : xP G YX12_rangeOf fr lo 94 [(0, rv x0), (2, rv x2), (3, .long x3)] [] h Q := by
  unfold bX12_rangeOf_94 at hq
  obtain ⟨g1, g2, hq⟩ := hq
  obtain ⟨a3, e5⟩ : ∃ y, y = nx h + 1 := ⟨_, rfl⟩
  obtain ⟨h4, e6⟩ : ∃ y, y = nO h 14 8 := ⟨_, rfl⟩
  refine x_new' cdX12_94 dX12_rangeOf_94 g1 g2 e5 e6 (fun f7 => ?_)
  replace hq := hq a3 h4 e5 e6 f7
  have t8 : tg h4 a3 = 14 := by rw [e6, e5]; exact tg_nO
  refine x_dup dX12_rangeOf_97 (rv_cat _) ?_
  refine x_bipush (v := 6) dX12_rangeOf_98 (by decide) ?_
  obtain ⟨g9, g10, hq⟩ := hq
  refine x_callI (Yc := YX13_init) (as := [.int 6]) (st := [rv a3]) q3209 miX13_init (by rw [t8]; decide) rfl dX12_rangeOf_100 (xle (xal1 (rv_cat _) (xal1 rfl xal0)) (by decide)) (xfr g9) (xlo (xsw1 (rv_cat _) xsw0) (by decide) g10) (xKv hq (fun h11 hq e13 => ?_) (fun _ _ q _ => q))
  replace hq := hq e13
  refine x_astore (lv' := [(5, rv a3), (0, rv x0), (2, rv x2), (3, .long x3)]) dX12_rangeOf_103 (by decide) rfl ?_
  refine x_aload 0 dX12_rangeOf_105 rfl ?_
  refine x_aload_n 2 dX12_rangeOf_107 rfl ?_
  obtain ⟨g14, hq⟩ := hq
  obtain ⟨g15, g16, hq⟩ := hq
  refine x_callV (Yc := YX13_own) (as := []) (st := [rv a3]) q4189 mvX13_own g14 rfl dX12_rangeOf_108 (xle (xal1 (rv_cat _) xal0) (by decide)) (xfr g15) (xlo (xsw1 (rv_cat _) xsw0) (by decide) g16) (xKr hq (fun x18 h17 hq e19 => ?_) (fun _ _ q _ => q))
  replace hq := hq e19
  have t20 : tg h11 a3 = 14 := e13.tg t8 (by decide)
  have t21 : tg h17 a3 = 14 := e19.tg t20 (by decide)
  obtain ⟨h22, e23⟩ : ∃ y, y = sR h17 a3 3331 x18 := ⟨_, rfl⟩
  replace hq := hq h22 e23
  refine x_putR fdX12_871 xty_O dX12_rangeOf_111 t21 (Or.inl (by rw [t21]; rfl)) rfl e23 ?_
  refine x_aload 0 dX12_rangeOf_114 rfl ?_
  refine x_lload_n 3 dX12_rangeOf_116 rfl ?_
  refine x_l2i dX12_rangeOf_117 ?_
  have t24 : tg h22 a3 = 14 := by rw [e23]; exact t21
  obtain ⟨h25, e26⟩ : ∃ y, y = sI h22 a3 3329 (Int64.toInt32 x3) := ⟨_, rfl⟩
  replace hq := hq h25 e26
  refine x_putI fdX12_591 xty_I1 dX12_rangeOf_118 t24 (Or.inl (by rw [t24]; rfl)) xnI rfl e26 ?_
  refine x_aload 0 dX12_rangeOf_121 rfl ?_
  refine x_aload_n 1 dX12_rangeOf_123 rfl ?_
  obtain ⟨g27, hq⟩ := hq
  refine x_get (v := .long (fJ h25 x0 3139)) fdX12_760 dX12_rangeOf_124 g27 rfl ?_
  refine x_l2i dX12_rangeOf_127 ?_
  have t28 : tg h25 a3 = 14 := by rw [e26]; exact t24
  obtain ⟨h29, e30⟩ : ∃ y, y = sI h25 a3 3330 (Int64.toInt32 (fJ h25 x0 3139)) := ⟨_, rfl⟩
  replace hq := hq h29 e30
  refine x_putI fdX12_595 xty_I1 dX12_rangeOf_128 t28 (Or.inl (by rw [t28]; rfl)) xnI rfl e30 ?_
  refine x_aload 0 dX12_rangeOf_131 rfl ?_
  exact x_aret rfl xty_O dX12_rangeOf_133 hq
set_option maxRecDepth 100000 in
def bX12_rangeOf_73 (G : xG) (fr lo : Nat) (x0 : Nat) (x1 : Int32) (x2 : Nat) (x3 : Int64) (h : xH) (Q : Outcome → xH → Prop) : Prop := tg h x0 = 13 ∧ (((lg_cmp x3 (fJ h x0 3139)) ≤ 0 → bX12_rangeOf_94 G fr lo x0 x2 x3 h Q) ∧ (¬ (lg_cmp x3 (fJ h x0 3139)) ≤ 0 → tg h (fR h x0 3106) = 100 ∧ vp_in x1 (ln h (fR h x0 3106)) ∧ 1 ≤ fr ∧ 14 ≤ lo ∧ xRv G YX12_refuse (fr - 1) (lo - 14) [rv x0, .int 8, .int (aI h (fR h x0 3106) (Int32.toNatClampNeg x1))] h (fun h7 => xext h h7 → bX12_rangeOf_94 G fr lo x0 x2 x3 h7 Q) (fun r h2 => Q (.threw r) h2)))
set_option maxRecDepth 100000 in
theorem uX12_rangeOf_73 {G : xG} {fr lo : Nat} {x0 : Nat} {x1 : Int32} {x2 : Nat} {x3 : Int64} {h : xH} {Q : Outcome → xH → Prop} (hq : bX12_rangeOf_73 G fr lo x0 x1 x2 x3 h Q) : xP G YX12_rangeOf fr lo 73 [(0, rv x0), (1, .int x1), (2, rv x2), (3, .long x3)] [] h Q := by
  unfold bX12_rangeOf_73 at hq
  refine x_lload_n 3 dX12_rangeOf_73 rfl ?_
  refine x_aload_n 0 dX12_rangeOf_74 rfl ?_
  obtain ⟨g1, hq⟩ := hq
  refine x_get (v := .long (fJ h x0 3139)) fdX12_760 dX12_rangeOf_75 g1 rfl ?_
  refine x_lcmp dX12_rangeOf_78 ?_
  refine x_if_le (tgt := 94) dX12_rangeOf_79 (by decide) (fun c2 => ?_) (fun c2 => ?_)
  · replace hq := hq.1 c2
    refine xP.pick (lv' := [(0, rv x0), (2, rv x2), (3, .long x3)]) [0, 2, 3] rfl ?_
    exact uX12_rangeOf_94 hq
  · replace hq := hq.2 c2
    refine x_aload_n 0 dX12_rangeOf_82 rfl ?_
    refine x_bipush (v := 8) dX12_rangeOf_83 (by decide) ?_
    refine x_aload_n 0 dX12_rangeOf_85 rfl ?_
    refine x_get (v := rv (fR h x0 3106)) fdX12_82 dX12_rangeOf_86 g1 rfl ?_
    refine x_iload_n 1 dX12_rangeOf_89 rfl ?_
    obtain ⟨g3, hq⟩ := hq
    obtain ⟨i4, hq⟩ := hq
    refine x_iald 0 (Or.inl rfl) g3 i4 dX12_rangeOf_90 ?_
    obtain ⟨g5, g6, hq⟩ := hq
    refine x_callV (Yc := YX12_refuse) (as := [.int 8, .int (aI h (fR h x0 3106) (Int32.toNatClampNeg x1))]) (st := []) q4095 mvX12_refuse g1 rfl dX12_rangeOf_91 (xle (xal1 (rv_cat _) (xal1 rfl (xal1 rfl xal0))) (by decide)) (xfr g5) (xlo xsw0 (by decide) g6) (xKv hq (fun h7 hq e9 => ?_) (fun _ _ q _ => q))
    replace hq := hq e9
    refine xP.pick (lv' := [(0, rv x0), (2, rv x2), (3, .long x3)]) [0, 2, 3] rfl ?_
    exact uX12_rangeOf_94 hq
set_option maxRecDepth 100000 in
def bX12_rangeOf_61 (G : xG) (fr lo : Nat) (x0 : Nat) (x1 : Int32) (x2 : Nat) (x3 : Int64) (h : xH) (Q : Outcome → xH → Prop) : Prop := tg h x0 = 13 ∧ tg h (fR h x0 3106) = 100 ∧ vp_in x1 (ln h (fR h x0 3106)) ∧ 1 ≤ fr ∧ 14 ≤ lo ∧ xRv G YX12_refuse (fr - 1) (lo - 14) [rv x0, .int 7, .int (aI h (fR h x0 3106) (Int32.toNatClampNeg x1))] h (fun h6 => xext h h6 → bX12_rangeOf_73 G fr lo x0 x1 x2 x3 h6 Q) (fun r h2 => Q (.threw r) h2)
set_option maxRecDepth 100000 in
theorem uX12_rangeOf_61 {G : xG} {fr lo : Nat} {x0 : Nat} {x1 : Int32} {x2 : Nat} {x3 : Int64} {h : xH} {Q : Outcome → xH → Prop} (hq : bX12_rangeOf_61 G fr lo x0 x1 x2 x3 h Q) : xP G YX12_rangeOf fr lo 61 [(0, rv x0), (1, .int x1), (2, rv x2), (3, .long x3)] [] h Q := by
  unfold bX12_rangeOf_61 at hq
  refine x_aload_n 0 dX12_rangeOf_61 rfl ?_
  refine x_bipush (v := 7) dX12_rangeOf_62 (by decide) ?_
  refine x_aload_n 0 dX12_rangeOf_64 rfl ?_
  obtain ⟨g1, hq⟩ := hq
  refine x_get (v := rv (fR h x0 3106)) fdX12_82 dX12_rangeOf_65 g1 rfl ?_
  refine x_iload_n 1 dX12_rangeOf_68 rfl ?_
  obtain ⟨g2, hq⟩ := hq
  obtain ⟨i3, hq⟩ := hq
  refine x_iald 0 (Or.inl rfl) g2 i3 dX12_rangeOf_69 ?_
  obtain ⟨g4, g5, hq⟩ := hq
  refine x_callV (Yc := YX12_refuse) (as := [.int 7, .int (aI h (fR h x0 3106) (Int32.toNatClampNeg x1))]) (st := []) q4095 mvX12_refuse g1 rfl dX12_rangeOf_70 (xle (xal1 (rv_cat _) (xal1 rfl (xal1 rfl xal0))) (by decide)) (xfr g4) (xlo xsw0 (by decide) g5) (xKv hq (fun h6 hq e8 => ?_) (fun _ _ q _ => q))
  replace hq := hq e8
  exact uX12_rangeOf_73 hq
set_option maxRecDepth 100000 in
def bX12_rangeOf (G : xG) (fr lo : Nat) (x0 : Nat) (x1 : Int32) (h : xH) (Q : Outcome → xH → Prop) : Prop := tg h x0 = 13 ∧ tg h (fR h x0 3103) = 100 ∧ vp_in x1 (ln h (fR h x0 3103)) ∧ 1 ≤ fr ∧ 15 ≤ lo ∧ xRv G YX12_constant (fr - 1) (lo - 15) [rv x0, .int (aI h (fR h x0 3103) (Int32.toNatClampNeg x1))] h (fun h6 => xext h h6 → 1 ≤ fr ∧ 17 ≤ lo ∧ xRi G YX12_child (fr - 1) (lo - 17) [rv x0, .int x1, .int 1] h6 (fun x13 h12 => xext h6 h12 → 1 ≤ fr ∧ 15 ≤ lo ∧ xRv G YX12_constant (fr - 1) (lo - 15) [rv x0, .int x13] h12 (fun h18 => xext h12 h18 → tg h18 (fR h6 x0 3138) = 14 ∧ 1 ≤ fr ∧ 12 ≤ lo ∧ xRi G YX13_isOrdinal (fr - 1) (lo - 12) [rv (fR h6 x0 3138)] h18 (fun x25 h24 => xext h18 h24 → ((x25 = 0 → bX12_rangeOf_61 G fr lo x0 x1 (fR h6 x0 3138) (fJ h6 x0 3139) h24 Q) ∧ (¬ x25 = 0 → tg h24 (fR h24 x0 3138) = 14 ∧ 1 ≤ fr ∧ 12 ≤ lo ∧ xRi G YX13_isOrdinal (fr - 1) (lo - 12) [rv (fR h24 x0 3138)] h24 (fun x34 h33 => xext h24 h33 → ((x34 = 0 → bX12_rangeOf_61 G fr lo x0 x1 (fR h6 x0 3138) (fJ h6 x0 3139) h33 Q) ∧ (¬ x34 = 0 → 1 ≤ fr ∧ 12 ≤ lo ∧ xRr G YX13_own (fr - 1) (lo - 12) [rv (fR h6 x0 3138)] h33 (fun x42 h41 => xext h33 h41 → tg h41 (fR h41 x0 3138) = 14 ∧ 1 ≤ fr ∧ 13 ≤ lo ∧ xRr G YX13_own (fr - 1) (lo - 13) [rv (fR h41 x0 3138)] h41 (fun x50 h49 => xext h41 h49 → ((x42 = x50 → bX12_rangeOf_73 G fr lo x0 x1 (fR h6 x0 3138) (fJ h6 x0 3139) h49 Q) ∧ (¬ x42 = x50 → bX12_rangeOf_61 G fr lo x0 x1 (fR h6 x0 3138) (fJ h6 x0 3139) h49 Q))) (fun r h2 => Q (.threw r) h2)) (fun r h2 => Q (.threw r) h2)))) (fun r h2 => Q (.threw r) h2)))) (fun r h2 => Q (.threw r) h2)) (fun r h2 => Q (.threw r) h2)) (fun r h2 => Q (.threw r) h2)) (fun r h2 => Q (.threw r) h2)
set_option maxRecDepth 100000 in
theorem uX12_rangeOf {G : xG} {fr lo : Nat} {x0 : Nat} {x1 : Int32} {h : xH} {Q : Outcome → xH → Prop} (hq : bX12_rangeOf G fr lo x0 x1 h Q) : xP G YX12_rangeOf fr lo 0 [(0, rv x0), (1, .int x1)] [] h Q := by
  unfold bX12_rangeOf at hq
  refine x_aload_n 0 dX12_rangeOf_0 rfl ?_
  refine x_aload_n 0 dX12_rangeOf_1 rfl ?_
  obtain ⟨g1, hq⟩ := hq
  refine x_get (v := rv (fR h x0 3103)) fdX12_73 dX12_rangeOf_2 g1 rfl ?_
  refine x_iload_n 1 dX12_rangeOf_5 rfl ?_
  obtain ⟨g2, hq⟩ := hq
  obtain ⟨i3, hq⟩ := hq
  refine x_iald 0 (Or.inl rfl) g2 i3 dX12_rangeOf_6 ?_
  obtain ⟨g4, g5, hq⟩ := hq
  refine x_callV (Yc := YX12_constant) (as := [.int (aI h (fR h x0 3103) (Int32.toNatClampNeg x1))]) (st := []) q4153 mvX12_constant g1 rfl dX12_rangeOf_7 (xle (xal1 (rv_cat _) (xal1 rfl xal0)) (by decide)) (xfr g4) (xlo xsw0 (by decide) g5) (xKv hq (fun h6 hq e8 => ?_) (fun _ _ q _ => q))
  replace hq := hq e8
  refine x_aload_n 0 dX12_rangeOf_10 rfl ?_
  have t9 : tg h6 x0 = 13 := e8.tg g1 (by decide)
  refine x_get (v := rv (fR h6 x0 3138)) fdX12_757 dX12_rangeOf_11 t9 rfl ?_
  refine x_astore_n (lv' := [(2, rv (fR h6 x0 3138)), (0, rv x0), (1, .int x1)]) dX12_rangeOf_14 (by decide) rfl ?_
  refine x_aload_n 1 dX12_rangeOf_15 rfl ?_
  refine x_get (v := .long (fJ h6 x0 3139)) fdX12_760 dX12_rangeOf_16 t9 rfl ?_
  refine x_lstore_n (lv' := [(3, .long (fJ h6 x0 3139)), (2, rv (fR h6 x0 3138)), (0, rv x0), (1, .int x1)]) dX12_rangeOf_19 (by decide) (by first | rfl | (simp [rv_cat, Value.category]; done) | (simp [rv_cat, Value.category]; decide)) ?_
  refine x_aload_n 2 dX12_rangeOf_20 rfl ?_
  refine x_aload_n 2 dX12_rangeOf_21 rfl ?_
  refine x_iload_n 3 dX12_rangeOf_22 rfl ?_
  refine x_iconst (v := 1) dX12_rangeOf_23 (by decide) ?_
  obtain ⟨g10, g11, hq⟩ := hq
  refine x_callV (Yc := YX12_child) (as := [.int x1, .int 1]) (st := [rv x0]) q4126 mvX12_child t9 rfl dX12_rangeOf_24 (xle (xal1 (rv_cat _) (xal1 rfl (xal1 rfl xal0))) (by decide)) (xfr g10) (xlo (xsw1 (rv_cat _) xsw0) (by decide) g11) (xKi hq (fun x13 h12 hq e14 => ?_) (fun _ _ q _ => q))
  replace hq := hq e14
  have t15 : tg h12 x0 = 13 := e14.tg t9 (by decide)
  obtain ⟨g16, g17, hq⟩ := hq
  refine x_callV (Yc := YX12_constant) (as := [.int x13]) (st := []) q4153 mvX12_constant t15 rfl dX12_rangeOf_27 (xle (xal1 (rv_cat _) (xal1 rfl xal0)) (by decide)) (xfr g16) (xlo xsw0 (by decide) g17) (xKv hq (fun h18 hq e20 => ?_) (fun _ _ q _ => q))
  replace hq := hq e20
  refine x_aload_n 1 dX12_rangeOf_30 rfl ?_
  obtain ⟨g21, hq⟩ := hq
  obtain ⟨g22, g23, hq⟩ := hq
  refine x_callV (Yc := YX13_isOrdinal) (as := []) (st := []) q4185 mvX13_isOrdinal g21 rfl dX12_rangeOf_31 (xle (xal1 (rv_cat _) xal0) (by decide)) (xfr g22) (xlo xsw0 (by decide) g23) (xKi hq (fun x25 h24 hq e26 => ?_) (fun _ _ q _ => q))
  replace hq := hq e26
  refine x_if_eq (tgt := 61) dX12_rangeOf_34 (by decide) (fun c27 => ?_) (fun c27 => ?_)
  · replace hq := hq.1 c27
    refine xP.pick (lv' := [(0, rv x0), (1, .int x1), (2, rv (fR h6 x0 3138)), (3, .long (fJ h6 x0 3139))]) [2, 3, 1, 0] rfl ?_
    exact uX12_rangeOf_61 hq
  · replace hq := hq.2 c27
    refine x_aload_n 2 dX12_rangeOf_37 rfl ?_
    have t28 : tg h18 x0 = 13 := e20.tg t15 (by decide)
    have t29 : tg h24 x0 = 13 := e26.tg t28 (by decide)
    refine x_get (v := rv (fR h24 x0 3138)) fdX12_757 dX12_rangeOf_38 t29 rfl ?_
    obtain ⟨g30, hq⟩ := hq
    obtain ⟨g31, g32, hq⟩ := hq
    refine x_callV (Yc := YX13_isOrdinal) (as := []) (st := []) q4185 mvX13_isOrdinal g30 rfl dX12_rangeOf_41 (xle (xal1 (rv_cat _) xal0) (by decide)) (xfr g31) (xlo xsw0 (by decide) g32) (xKi hq (fun x34 h33 hq e35 => ?_) (fun _ _ q _ => q))
    replace hq := hq e35
    refine x_if_eq (tgt := 61) dX12_rangeOf_44 (by decide) (fun c36 => ?_) (fun c36 => ?_)
    · replace hq := hq.1 c36
      refine xP.pick (lv' := [(0, rv x0), (1, .int x1), (2, rv (fR h6 x0 3138)), (3, .long (fJ h6 x0 3139))]) [2, 3, 1, 0] rfl ?_
      exact uX12_rangeOf_61 hq
    · replace hq := hq.2 c36
      refine x_aload_n 1 dX12_rangeOf_47 rfl ?_
      have t37 : tg h24 (fR h6 x0 3138) = 14 := e26.tg g21 (by decide)
      have t38 : tg h33 (fR h6 x0 3138) = 14 := e35.tg t37 (by decide)
      obtain ⟨g39, g40, hq⟩ := hq
      refine x_callV (Yc := YX13_own) (as := []) (st := []) q4189 mvX13_own t38 rfl dX12_rangeOf_48 (xle (xal1 (rv_cat _) xal0) (by decide)) (xfr g39) (xlo xsw0 (by decide) g40) (xKr hq (fun x42 h41 hq e43 => ?_) (fun _ _ q _ => q))
      replace hq := hq e43
      refine x_aload_n 2 dX12_rangeOf_51 rfl ?_
      have t44 : tg h33 x0 = 13 := e35.tg t29 (by decide)
      have t45 : tg h41 x0 = 13 := e43.tg t44 (by decide)
      refine x_get (v := rv (fR h41 x0 3138)) fdX12_757 dX12_rangeOf_52 t45 rfl ?_
      obtain ⟨g46, hq⟩ := hq
      obtain ⟨g47, g48, hq⟩ := hq
      refine x_callV (Yc := YX13_own) (as := []) (st := [rv x42]) q4189 mvX13_own g46 rfl dX12_rangeOf_55 (xle (xal1 (rv_cat _) xal0) (by decide)) (xfr g47) (xlo (xsw1 (rv_cat _) xsw0) (by decide) g48) (xKr hq (fun x50 h49 hq e51 => ?_) (fun _ _ q _ => q))
      replace hq := hq e51
      refine x_acmp_eq (tgt := 73) dX12_rangeOf_58 (by decide) (fun c52 => ?_) (fun c52 => ?_)
      · replace hq := hq.1 c52
        refine xP.pick (lv' := [(0, rv x0), (1, .int x1), (2, rv (fR h6 x0 3138)), (3, .long (fJ h6 x0 3139))]) [2, 3, 1, 0] rfl ?_
        exact uX12_rangeOf_73 hq
      · replace hq := hq.2 c52
        refine xP.pick (lv' := [(0, rv x0), (1, .int x1), (2, rv (fR h6 x0 3138)), (3, .long (fJ h6 x0 3139))]) [2, 3, 1, 0] rfl ?_
        exact uX12_rangeOf_61 hq
theorem rX12_rangeOf {G : xG} {fr lo : Nat} {x0 : Nat} {x1 : Int32} {h : xH} {Q : Outcome → xH → Prop} (hq : bX12_rangeOf G fr lo x0 x1 h Q) : xR G YX12_rangeOf fr lo [rv x0, .int x1] h Q := by
  show xP _ _ _ _ _ (lv_args 0 _) _ _ _
  rw [show lv_args 0 [rv x0, .int x1] = [(0, rv x0), (1, .int x1)] from (xla1 (rv_cat _) (xla1 rfl xla0))]
  exact uX12_rangeOf hq
set_option maxRecDepth 100000 in
theorem dX12_arrayOf_0 : decode cX12_arrayOf 0 = .ok (.new 131, 3) := by decide +kernel
set_option maxRecDepth 100000 in
theorem dX12_arrayOf_3 : decode cX12_arrayOf 3 = .ok (.dup, 1) := by decide +kernel
set_option maxRecDepth 100000 in
theorem dX12_arrayOf_4 : decode cX12_arrayOf 4 = .ok (.invokespecial 133, 3) := by decide +kernel
set_option maxRecDepth 100000 in
theorem dX12_arrayOf_7 : decode cX12_arrayOf 7 = .ok (.astore_n 2, 1) := by decide +kernel
set_option maxRecDepth 100000 in
theorem dX12_arrayOf_8 : decode cX12_arrayOf 8 = .ok (.aload_n 0, 1) := by decide +kernel
set_option maxRecDepth 100000 in
theorem dX12_arrayOf_9 : decode cX12_arrayOf 9 = .ok (.getfield 73, 3) := by decide +kernel
set_option maxRecDepth 100000 in
theorem dX12_arrayOf_12 : decode cX12_arrayOf 12 = .ok (.aload_n 0, 1) := by decide +kernel
set_option maxRecDepth 100000 in
theorem dX12_arrayOf_13 : decode cX12_arrayOf 13 = .ok (.getfield 73, 3) := by decide +kernel
set_option maxRecDepth 100000 in
theorem dX12_arrayOf_16 : decode cX12_arrayOf 16 = .ok (.iload_n 1, 1) := by decide +kernel
set_option maxRecDepth 100000 in
theorem dX12_arrayOf_17 : decode cX12_arrayOf 17 = .ok (.iaload, 1) := by decide +kernel
set_option maxRecDepth 100000 in
theorem dX12_arrayOf_18 : decode cX12_arrayOf 18 = .ok (.iaload, 1) := by decide +kernel
set_option maxRecDepth 100000 in
theorem dX12_arrayOf_19 : decode cX12_arrayOf 19 = .ok (.istore_n 3, 1) := by decide +kernel
set_option maxRecDepth 100000 in
theorem dX12_arrayOf_20 : decode cX12_arrayOf 20 = .ok (.iload_n 3, 1) := by decide +kernel
set_option maxRecDepth 100000 in
theorem dX12_arrayOf_21 : decode cX12_arrayOf 21 = .ok (.iconst (-1), 1) := by decide +kernel
set_option maxRecDepth 100000 in
theorem dX12_arrayOf_22 : decode cX12_arrayOf 22 = .ok (.if_icmp .eq 47, 3) := by decide +kernel
set_option maxRecDepth 100000 in
theorem dX12_arrayOf_25 : decode cX12_arrayOf 25 = .ok (.aload_n 0, 1) := by decide +kernel
set_option maxRecDepth 100000 in
theorem dX12_arrayOf_26 : decode cX12_arrayOf 26 = .ok (.iload_n 3, 1) := by decide +kernel
set_option maxRecDepth 100000 in
theorem dX12_arrayOf_27 : decode cX12_arrayOf 27 = .ok (.invokevirtual 776, 3) := by decide +kernel
set_option maxRecDepth 100000 in
theorem dX12_arrayOf_30 : decode cX12_arrayOf 30 = .ok (.astore 4, 2) := by decide +kernel
set_option maxRecDepth 100000 in
theorem dX12_arrayOf_32 : decode cX12_arrayOf 32 = .ok (.aload 4, 2) := by decide +kernel
set_option maxRecDepth 100000 in
theorem dX12_arrayOf_34 : decode cX12_arrayOf 34 = .ok (.invokevirtual 861, 3) := by decide +kernel
set_option maxRecDepth 100000 in
theorem dX12_arrayOf_37 : decode cX12_arrayOf 37 = .ok (.ifCond .ne 15, 3) := by decide +kernel
set_option maxRecDepth 100000 in
theorem dX12_arrayOf_40 : decode cX12_arrayOf 40 = .ok (.aload_n 0, 1) := by decide +kernel
set_option maxRecDepth 100000 in
theorem dX12_arrayOf_41 : decode cX12_arrayOf 41 = .ok (.bipush 7, 2) := by decide +kernel
set_option maxRecDepth 100000 in
theorem dX12_arrayOf_43 : decode cX12_arrayOf 43 = .ok (.aload_n 0, 1) := by decide +kernel
set_option maxRecDepth 100000 in
theorem dX12_arrayOf_44 : decode cX12_arrayOf 44 = .ok (.getfield 70, 3) := by decide +kernel
set_option maxRecDepth 100000 in
theorem dX12_arrayOf_47 : decode cX12_arrayOf 47 = .ok (.iload_n 3, 1) := by decide +kernel
set_option maxRecDepth 100000 in
theorem dX12_arrayOf_48 : decode cX12_arrayOf 48 = .ok (.iaload, 1) := by decide +kernel
set_option maxRecDepth 100000 in
theorem dX12_arrayOf_49 : decode cX12_arrayOf 49 = .ok (.invokevirtual 570, 3) := by decide +kernel
set_option maxRecDepth 100000 in
theorem dX12_arrayOf_52 : decode cX12_arrayOf 52 = .ok (.aload_n 2, 1) := by decide +kernel
set_option maxRecDepth 100000 in
theorem dX12_arrayOf_53 : decode cX12_arrayOf 53 = .ok (.aload 4, 2) := by decide +kernel
set_option maxRecDepth 100000 in
theorem dX12_arrayOf_55 : decode cX12_arrayOf 55 = .ok (.invokevirtual 579, 3) := by decide +kernel
set_option maxRecDepth 100000 in
theorem dX12_arrayOf_58 : decode cX12_arrayOf 58 = .ok (.pop, 1) := by decide +kernel
set_option maxRecDepth 100000 in
theorem dX12_arrayOf_59 : decode cX12_arrayOf 59 = .ok (.aload_n 0, 1) := by decide +kernel
set_option maxRecDepth 100000 in
theorem dX12_arrayOf_60 : decode cX12_arrayOf 60 = .ok (.getfield 79, 3) := by decide +kernel
set_option maxRecDepth 100000 in
theorem dX12_arrayOf_63 : decode cX12_arrayOf 63 = .ok (.iload_n 3, 1) := by decide +kernel
set_option maxRecDepth 100000 in
theorem dX12_arrayOf_64 : decode cX12_arrayOf 64 = .ok (.iaload, 1) := by decide +kernel
set_option maxRecDepth 100000 in
theorem dX12_arrayOf_65 : decode cX12_arrayOf 65 = .ok (.istore_n 3, 1) := by decide +kernel
set_option maxRecDepth 100000 in
theorem dX12_arrayOf_66 : decode cX12_arrayOf 66 = .ok (.goto (-46), 3) := by decide +kernel
set_option maxRecDepth 100000 in
theorem dX12_arrayOf_69 : decode cX12_arrayOf 69 = .ok (.aload_n 0, 1) := by decide +kernel
set_option maxRecDepth 100000 in
theorem dX12_arrayOf_70 : decode cX12_arrayOf 70 = .ok (.aload_n 0, 1) := by decide +kernel
set_option maxRecDepth 100000 in
theorem dX12_arrayOf_71 : decode cX12_arrayOf 71 = .ok (.iload_n 1, 1) := by decide +kernel
set_option maxRecDepth 100000 in
theorem dX12_arrayOf_72 : decode cX12_arrayOf 72 = .ok (.iconst 1, 1) := by decide +kernel
set_option maxRecDepth 100000 in
theorem dX12_arrayOf_73 : decode cX12_arrayOf 73 = .ok (.invokevirtual 734, 3) := by decide +kernel
set_option maxRecDepth 100000 in
theorem dX12_arrayOf_76 : decode cX12_arrayOf 76 = .ok (.invokevirtual 776, 3) := by decide +kernel
set_option maxRecDepth 100000 in
theorem dX12_arrayOf_79 : decode cX12_arrayOf 79 = .ok (.astore_n 3, 1) := by decide +kernel
set_option maxRecDepth 100000 in
theorem dX12_arrayOf_80 : decode cX12_arrayOf 80 = .ok (.aload_n 3, 1) := by decide +kernel
set_option maxRecDepth 100000 in
theorem dX12_arrayOf_81 : decode cX12_arrayOf 81 = .ok (.getfield 845, 3) := by decide +kernel
set_option maxRecDepth 100000 in
theorem dX12_arrayOf_84 : decode cX12_arrayOf 84 = .ok (.bipush 10, 2) := by decide +kernel
set_option maxRecDepth 100000 in
theorem dX12_arrayOf_86 : decode cX12_arrayOf 86 = .ok (.if_icmp .ne 15, 3) := by decide +kernel
set_option maxRecDepth 100000 in
theorem dX12_arrayOf_89 : decode cX12_arrayOf 89 = .ok (.aload_n 0, 1) := by decide +kernel
set_option maxRecDepth 100000 in
theorem dX12_arrayOf_90 : decode cX12_arrayOf 90 = .ok (.bipush 7, 2) := by decide +kernel
set_option maxRecDepth 100000 in
theorem dX12_arrayOf_92 : decode cX12_arrayOf 92 = .ok (.aload_n 0, 1) := by decide +kernel
set_option maxRecDepth 100000 in
theorem dX12_arrayOf_93 : decode cX12_arrayOf 93 = .ok (.getfield 82, 3) := by decide +kernel
set_option maxRecDepth 100000 in
theorem dX12_arrayOf_96 : decode cX12_arrayOf 96 = .ok (.iload_n 1, 1) := by decide +kernel
set_option maxRecDepth 100000 in
theorem dX12_arrayOf_97 : decode cX12_arrayOf 97 = .ok (.iaload, 1) := by decide +kernel
set_option maxRecDepth 100000 in
theorem dX12_arrayOf_98 : decode cX12_arrayOf 98 = .ok (.invokevirtual 570, 3) := by decide +kernel
set_option maxRecDepth 100000 in
theorem dX12_arrayOf_101 : decode cX12_arrayOf 101 = .ok (.aload_n 2, 1) := by decide +kernel
set_option maxRecDepth 100000 in
theorem dX12_arrayOf_102 : decode cX12_arrayOf 102 = .ok (.invokevirtual 554, 3) := by decide +kernel
set_option maxRecDepth 100000 in
theorem dX12_arrayOf_105 : decode cX12_arrayOf 105 = .ok (.iconst 1, 1) := by decide +kernel
set_option maxRecDepth 100000 in
theorem dX12_arrayOf_106 : decode cX12_arrayOf 106 = .ok (.isub, 1) := by decide +kernel
set_option maxRecDepth 100000 in
theorem dX12_arrayOf_107 : decode cX12_arrayOf 107 = .ok (.istore 4, 2) := by decide +kernel
set_option maxRecDepth 100000 in
theorem dX12_arrayOf_109 : decode cX12_arrayOf 109 = .ok (.iload 4, 2) := by decide +kernel
set_option maxRecDepth 100000 in
theorem dX12_arrayOf_111 : decode cX12_arrayOf 111 = .ok (.ifCond .lt 85, 3) := by decide +kernel
set_option maxRecDepth 100000 in
theorem dX12_arrayOf_114 : decode cX12_arrayOf 114 = .ok (.new 94, 3) := by decide +kernel
set_option maxRecDepth 100000 in
theorem dX12_arrayOf_117 : decode cX12_arrayOf 117 = .ok (.dup, 1) := by decide +kernel
set_option maxRecDepth 100000 in
theorem dX12_arrayOf_118 : decode cX12_arrayOf 118 = .ok (.bipush 7, 2) := by decide +kernel
set_option maxRecDepth 100000 in
theorem dX12_arrayOf_120 : decode cX12_arrayOf 120 = .ok (.invokespecial 106, 3) := by decide +kernel
set_option maxRecDepth 100000 in
theorem dX12_arrayOf_123 : decode cX12_arrayOf 123 = .ok (.astore 5, 2) := by decide +kernel
set_option maxRecDepth 100000 in
theorem dX12_arrayOf_125 : decode cX12_arrayOf 125 = .ok (.aload 5, 2) := by decide +kernel
set_option maxRecDepth 100000 in
theorem dX12_arrayOf_127 : decode cX12_arrayOf 127 = .ok (.aload_n 2, 1) := by decide +kernel
set_option maxRecDepth 100000 in
theorem dX12_arrayOf_128 : decode cX12_arrayOf 128 = .ok (.iload 4, 2) := by decide +kernel
set_option maxRecDepth 100000 in
theorem dX12_arrayOf_130 : decode cX12_arrayOf 130 = .ok (.invokevirtual 556, 3) := by decide +kernel
set_option maxRecDepth 100000 in
theorem dX12_arrayOf_133 : decode cX12_arrayOf 133 = .ok (.checkcast 94, 3) := by decide +kernel
set_option maxRecDepth 100000 in
theorem dX12_arrayOf_136 : decode cX12_arrayOf 136 = .ok (.putfield 864, 3) := by decide +kernel
set_option maxRecDepth 100000 in
theorem dX12_arrayOf_139 : decode cX12_arrayOf 139 = .ok (.aload 5, 2) := by decide +kernel
set_option maxRecDepth 100000 in
theorem dX12_arrayOf_141 : decode cX12_arrayOf 141 = .ok (.aload_n 3, 1) := by decide +kernel
set_option maxRecDepth 100000 in
theorem dX12_arrayOf_142 : decode cX12_arrayOf 142 = .ok (.putfield 598, 3) := by decide +kernel
set_option maxRecDepth 100000 in
theorem dX12_arrayOf_145 : decode cX12_arrayOf 145 = .ok (.aload 5, 2) := by decide +kernel
set_option maxRecDepth 100000 in
theorem dX12_arrayOf_147 : decode cX12_arrayOf 147 = .ok (.aload 5, 2) := by decide +kernel
set_option maxRecDepth 100000 in
theorem dX12_arrayOf_149 : decode cX12_arrayOf 149 = .ok (.getfield 864, 3) := by decide +kernel
set_option maxRecDepth 100000 in
theorem dX12_arrayOf_152 : decode cX12_arrayOf 152 = .ok (.invokevirtual 874, 3) := by decide +kernel
set_option maxRecDepth 100000 in
theorem dX12_arrayOf_155 : decode cX12_arrayOf 155 = .ok (.aload_n 3, 1) := by decide +kernel
set_option maxRecDepth 100000 in
theorem dX12_arrayOf_156 : decode cX12_arrayOf 156 = .ok (.getfield 603, 3) := by decide +kernel
set_option maxRecDepth 100000 in
theorem dX12_arrayOf_159 : decode cX12_arrayOf 159 = .ok (.lmul, 1) := by decide +kernel
set_option maxRecDepth 100000 in
theorem dX12_arrayOf_160 : decode cX12_arrayOf 160 = .ok (.putfield 603, 3) := by decide +kernel
set_option maxRecDepth 100000 in
theorem dX12_arrayOf_163 : decode cX12_arrayOf 163 = .ok (.aload 5, 2) := by decide +kernel
set_option maxRecDepth 100000 in
theorem dX12_arrayOf_165 : decode cX12_arrayOf 165 = .ok (.getfield 603, 3) := by decide +kernel
set_option maxRecDepth 100000 in
theorem dX12_arrayOf_168 : decode cX12_arrayOf 168 = .ok (.ldc2_w 859, 3) := by decide +kernel
set_option maxRecDepth 100000 in
theorem dX12_arrayOf_171 : decode cX12_arrayOf 171 = .ok (.lcmp, 1) := by decide +kernel
set_option maxRecDepth 100000 in
theorem dX12_arrayOf_172 : decode cX12_arrayOf 172 = .ok (.ifCond .le 15, 3) := by decide +kernel
set_option maxRecDepth 100000 in
theorem dX12_arrayOf_175 : decode cX12_arrayOf 175 = .ok (.aload_n 0, 1) := by decide +kernel
set_option maxRecDepth 100000 in
theorem dX12_arrayOf_176 : decode cX12_arrayOf 176 = .ok (.bipush 8, 2) := by decide +kernel
set_option maxRecDepth 100000 in
theorem dX12_arrayOf_178 : decode cX12_arrayOf 178 = .ok (.aload_n 0, 1) := by decide +kernel
set_option maxRecDepth 100000 in
theorem dX12_arrayOf_179 : decode cX12_arrayOf 179 = .ok (.getfield 70, 3) := by decide +kernel
set_option maxRecDepth 100000 in
theorem dX12_arrayOf_182 : decode cX12_arrayOf 182 = .ok (.iload_n 1, 1) := by decide +kernel
set_option maxRecDepth 100000 in
theorem dX12_arrayOf_183 : decode cX12_arrayOf 183 = .ok (.iaload, 1) := by decide +kernel
set_option maxRecDepth 100000 in
theorem dX12_arrayOf_184 : decode cX12_arrayOf 184 = .ok (.invokevirtual 570, 3) := by decide +kernel
set_option maxRecDepth 100000 in
theorem dX12_arrayOf_187 : decode cX12_arrayOf 187 = .ok (.aload 5, 2) := by decide +kernel
set_option maxRecDepth 100000 in
theorem dX12_arrayOf_189 : decode cX12_arrayOf 189 = .ok (.astore_n 3, 1) := by decide +kernel
set_option maxRecDepth 100000 in
theorem dX12_arrayOf_190 : decode cX12_arrayOf 190 = .ok (.iinc 4 (-1), 3) := by decide +kernel
set_option maxRecDepth 100000 in
theorem dX12_arrayOf_193 : decode cX12_arrayOf 193 = .ok (.goto (-84), 3) := by decide +kernel
set_option maxRecDepth 100000 in
theorem dX12_arrayOf_196 : decode cX12_arrayOf 196 = .ok (.aload_n 3, 1) := by decide +kernel
set_option maxRecDepth 100000 in
theorem dX12_arrayOf_197 : decode cX12_arrayOf 197 = .ok (.areturn, 1) := by decide +kernel
def lX12_arrayOf_20 (G : xG) (fr lo : Nat) (x0 : Nat) (x1 : Int32) (x2 : Nat) (x3 : Int32) (h : xH) (Q : Outcome → xH → Prop) : Prop := xP G YX12_arrayOf fr lo 20 [(0, rv x0), (1, .int x1), (2, rv x2), (3, .int x3)] [] h Q
def lX12_arrayOf_109 (G : xG) (fr lo : Nat) (x0 : Nat) (x1 : Int32) (x2 : Nat) (x3 : Nat) (x4 : Int32) (h : xH) (Q : Outcome → xH → Prop) : Prop := xP G YX12_arrayOf fr lo 109 [(0, rv x0), (1, .int x1), (2, rv x2), (3, rv x3), (4, .int x4)] [] h Q
set_option maxRecDepth 100000 in
def bX12_arrayOf_187 (G : xG) (fr lo : Nat) (x0 : Nat) (x1 : Int32) (x2 : Nat) (x4 : Int32) (x5 : Nat) (h : xH) (Q : Outcome → xH → Prop) : Prop := lX12_arrayOf_109 G fr lo x0 x1 x2 x5 (x4 + (-1)) h Q
set_option maxRecDepth 100000 in
theorem uX12_arrayOf_187 {G : xG} {fr lo : Nat} {x0 : Nat} {x1 : Int32} {x2 : Nat} {x4 : Int32} {x5 : Nat} {h : xH} {Q : Outcome → xH → Prop} (hq : bX12_arrayOf_187 G fr lo x0 x1 x2 x4 x5 h Q) : xP G YX12_arrayOf fr lo 187 [(0, rv x0), (1, .int x1), (2, rv x2), (4, .int x4), (5, rv x5)] [] h Q := by
  unfold bX12_arrayOf_187 at hq
  refine x_aload 4 dX12_arrayOf_187 rfl ?_
  refine x_astore_n (lv' := [(3, rv x5), (0, rv x0), (1, .int x1), (2, rv x2), (4, .int x4), (5, rv x5)]) dX12_arrayOf_189 (by decide) (by first | rfl | (simp [rv_cat, Value.category]; done) | (simp [rv_cat, Value.category]; decide)) ?_
  refine x_iinc (lv' := [(4, .int (x4 + (-1))), (3, rv x5), (0, rv x0), (1, .int x1), (2, rv x2), (5, rv x5)]) 4 dX12_arrayOf_190 rfl (by decide) (by first | rfl | (simp [rv_cat, Value.category]; done) | (simp [rv_cat, Value.category]; decide)) ?_
  refine x_goto (tgt := 109) dX12_arrayOf_193 (by decide) ?_
  refine xP.pick (lv' := [(0, rv x0), (1, .int x1), (2, rv x2), (3, rv x5), (4, .int (x4 + (-1)))]) [2, 3, 4, 1, 0] rfl ?_
  exact hq
set_option maxRecDepth 100000 in
def bX12_arrayOf_109 (G : xG) (fr lo : Nat) (x0 : Nat) (x1 : Int32) (x2 : Nat) (x3 : Nat) (x4 : Int32) (h : xH) (Q : Outcome → xH → Prop) : Prop := ((x4 < 0 → Q (.returned (some (rv x3))) h) ∧ (¬ x4 < 0 → nx h + 1 ≤ xGN G ∧ us h + 8 ≤ xGU G ∧ (∀ (a4 : Nat) (h5 : xH), a4 = nx h + 1 → h5 = nO h 14 8 → xfresh h a4 → 1 ≤ fr ∧ 14 ≤ lo ∧ xRv G YX13_init (fr - 1) (lo - 14) [rv a4, .int 7] h5 (fun h12 => xext h5 h12 → tg h12 x2 = 29 ∧ 1 ≤ fr ∧ 14 ≤ lo ∧ xRr G YJ2_get (fr - 1) (lo - 14) [rv x2, .int x4] h12 (fun x19 h18 => xext h12 h18 → tg h18 x19 = 14 ∧ (∀ h24 : xH, h24 = sR h18 a4 3332 x19 → (∀ h27 : xH, h27 = sR h24 a4 3333 x3 → tg h27 (fR h27 a4 3332) = 14 ∧ 1 ≤ fr ∧ 13 ≤ lo ∧ xRj G YX13_values (fr - 1) (lo - 13) [rv (fR h27 a4 3332)] h27 (fun x34 h33 => xext h27 h33 → tg h33 x3 = 14 ∧ (∀ h38 : xH, h38 = sJ h33 a4 3334 (x34 * (fJ h33 x3 3334)) → (((lg_cmp (fJ h38 a4 3334) 5000) ≤ 0 → bX12_arrayOf_187 G fr lo x0 x1 x2 x4 a4 h38 Q) ∧ (¬ (lg_cmp (fJ h38 a4 3334) 5000) ≤ 0 → tg h38 x0 = 13 ∧ tg h38 (fR h38 x0 3102) = 100 ∧ vp_in x1 (ln h38 (fR h38 x0 3102)) ∧ 1 ≤ fr ∧ 14 ≤ lo ∧ xRv G YX12_refuse (fr - 1) (lo - 14) [rv x0, .int 8, .int (aI h38 (fR h38 x0 3102) (Int32.toNatClampNeg x1))] h38 (fun h47 => xext h38 h47 → bX12_arrayOf_187 G fr lo x0 x1 x2 x4 a4 h47 Q) (fun r h2 => Q (.threw r) h2))))) (fun r h2 => Q (.threw r) h2)))) (fun r h2 => Q (.threw r) h2)) (fun r h2 => Q (.threw r) h2))))
set_option maxRecDepth 100000 in
theorem uX12_arrayOf_109 {G : xG} {fr lo : Nat} {x0 : Nat} {x1 : Int32} {x2 : Nat} {x3 : Nat} {x4 : Int32} {h : xH} {Q : Outcome → xH → Prop} (hq : bX12_arrayOf_109 G fr lo x0 x1 x2 x3 x4 h Q) : xP G YX12_arrayOf fr lo 109 [(0, rv x0), (1, .int x1), (2, rv x2), (3, rv x3), (4, .int x4)] [] h Q := by
  unfold bX12_arrayOf_109 at hq
  refine x_iload 4 dX12_arrayOf_109 rfl ?_
  refine x_if_lt (tgt := 196) dX12_arrayOf_111 (by decide) (fun c1 => ?_) (fun c1 => ?_)
  · replace hq := hq.1 c1
    refine x_aload_n 3 dX12_arrayOf_196 rfl ?_
    exact x_aret rfl xty_O dX12_arrayOf_197 hq
  · replace hq := hq.2 c1
    obtain ⟨g2, g3, hq⟩ := hq
    obtain ⟨a4, e6⟩ : ∃ y, y = nx h + 1 := ⟨_, rfl⟩
    obtain ⟨h5, e7⟩ : ∃ y, y = nO h 14 8 := ⟨_, rfl⟩
    refine x_new' cdX12_94 dX12_arrayOf_114 g2 g3 e6 e7 (fun f8 => ?_)
    replace hq := hq a4 h5 e6 e7 f8
    have t9 : tg h5 a4 = 14 := by rw [e7, e6]; exact tg_nO
    refine x_dup dX12_arrayOf_117 (rv_cat _) ?_
    refine x_bipush (v := 7) dX12_arrayOf_118 (by decide) ?_
    obtain ⟨g10, g11, hq⟩ := hq
    refine x_callI (Yc := YX13_init) (as := [.int 7]) (st := [rv a4]) q3209 miX13_init (by rw [t9]; decide) rfl dX12_arrayOf_120 (xle (xal1 (rv_cat _) (xal1 rfl xal0)) (by decide)) (xfr g10) (xlo (xsw1 (rv_cat _) xsw0) (by decide) g11) (xKv hq (fun h12 hq e14 => ?_) (fun _ _ q _ => q))
    replace hq := hq e14
    refine x_astore (lv' := [(5, rv a4), (0, rv x0), (1, .int x1), (2, rv x2), (3, rv x3), (4, .int x4)]) dX12_arrayOf_123 (by decide) rfl ?_
    refine x_aload 0 dX12_arrayOf_125 rfl ?_
    refine x_aload_n 3 dX12_arrayOf_127 rfl ?_
    refine x_iload 5 dX12_arrayOf_128 rfl ?_
    obtain ⟨g15, hq⟩ := hq
    obtain ⟨g16, g17, hq⟩ := hq
    refine x_callV (Yc := YJ2_get) (as := [.int x4]) (st := [rv a4]) q4109 mvJ2_get g15 rfl dX12_arrayOf_130 (xle (xal1 (rv_cat _) (xal1 rfl xal0)) (by decide)) (xfr g16) (xlo (xsw1 (rv_cat _) xsw0) (by decide) g17) (xKr hq (fun x19 h18 hq e20 => ?_) (fun _ _ q _ => q))
    replace hq := hq e20
    obtain ⟨g21, hq⟩ := hq
    refine x_cast (ci := 13) (by decide) rfl q3204 g21 dX12_arrayOf_133 ?_
    have t22 : tg h12 a4 = 14 := e14.tg t9 (by decide)
    have t23 : tg h18 a4 = 14 := e20.tg t22 (by decide)
    obtain ⟨h24, e25⟩ : ∃ y, y = sR h18 a4 3332 x19 := ⟨_, rfl⟩
    replace hq := hq h24 e25
    refine x_putR fdX12_864 xty_O dX12_arrayOf_136 t23 (Or.inl (by rw [t23]; rfl)) rfl e25 ?_
    refine x_aload 0 dX12_arrayOf_139 rfl ?_
    refine x_aload_n 4 dX12_arrayOf_141 rfl ?_
    have t26 : tg h24 a4 = 14 := by rw [e25]; exact t23
    obtain ⟨h27, e28⟩ : ∃ y, y = sR h24 a4 3333 x3 := ⟨_, rfl⟩
    replace hq := hq h27 e28
    refine x_putR fdX12_598 xty_O dX12_arrayOf_142 t26 (Or.inl (by rw [t26]; rfl)) rfl e28 ?_
    refine x_aload 0 dX12_arrayOf_145 rfl ?_
    refine x_aload 0 dX12_arrayOf_147 rfl ?_
    have t29 : tg h27 a4 = 14 := by rw [e28]; exact t26
    refine x_get (v := rv (fR h27 a4 3332)) fdX12_864 dX12_arrayOf_149 t29 rfl ?_
    obtain ⟨g30, hq⟩ := hq
    obtain ⟨g31, g32, hq⟩ := hq
    refine x_callV (Yc := YX13_values) (as := []) (st := [rv a4]) q4194 mvX13_values g30 rfl dX12_arrayOf_152 (xle (xal1 (rv_cat _) xal0) (by decide)) (xfr g31) (xlo (xsw1 (rv_cat _) xsw0) (by decide) g32) (xKj hq (fun x34 h33 hq e35 => ?_) (fun _ _ q _ => q))
    replace hq := hq e35
    refine x_aload_n 4 dX12_arrayOf_155 rfl ?_
    obtain ⟨g36, hq⟩ := hq
    refine x_get (v := .long (fJ h33 x3 3334)) fdX12_603 dX12_arrayOf_156 g36 rfl ?_
    refine x_lmul dX12_arrayOf_159 ?_
    have t37 : tg h33 a4 = 14 := e35.tg t29 (by decide)
    obtain ⟨h38, e39⟩ : ∃ y, y = sJ h33 a4 3334 (x34 * (fJ h33 x3 3334)) := ⟨_, rfl⟩
    replace hq := hq h38 e39
    refine x_putJ fdX12_603 dX12_arrayOf_160 t37 (Or.inl (by rw [t37]; rfl)) rfl e39 ?_
    refine x_aload 0 dX12_arrayOf_163 rfl ?_
    have t40 : tg h38 a4 = 14 := by rw [e39]; exact t37
    refine x_get (v := .long (fJ h38 a4 3334)) fdX12_603 dX12_arrayOf_165 t40 rfl ?_
    refine x_ldc2 (v := 5000) q4198 dX12_arrayOf_168 ?_
    refine x_lcmp dX12_arrayOf_171 ?_
    refine x_if_le (tgt := 187) dX12_arrayOf_172 (by decide) (fun c41 => ?_) (fun c41 => ?_)
    · replace hq := hq.1 c41
      refine xP.pick (lv' := [(0, rv x0), (1, .int x1), (2, rv x2), (4, .int x4), (5, rv a4)]) [1, 2, 3, 5, 0] rfl ?_
      exact uX12_arrayOf_187 hq
    · replace hq := hq.2 c41
      refine x_aload_n 1 dX12_arrayOf_175 rfl ?_
      refine x_bipush (v := 8) dX12_arrayOf_176 (by decide) ?_
      refine x_aload_n 1 dX12_arrayOf_178 rfl ?_
      obtain ⟨g42, hq⟩ := hq
      refine x_get (v := rv (fR h38 x0 3102)) fdX12_70 dX12_arrayOf_179 g42 rfl ?_
      refine x_iload_n 2 dX12_arrayOf_182 rfl ?_
      obtain ⟨g43, hq⟩ := hq
      obtain ⟨i44, hq⟩ := hq
      refine x_iald 0 (Or.inl rfl) g43 i44 dX12_arrayOf_183 ?_
      obtain ⟨g45, g46, hq⟩ := hq
      refine x_callV (Yc := YX12_refuse) (as := [.int 8, .int (aI h38 (fR h38 x0 3102) (Int32.toNatClampNeg x1))]) (st := []) q4095 mvX12_refuse g42 rfl dX12_arrayOf_184 (xle (xal1 (rv_cat _) (xal1 rfl (xal1 rfl xal0))) (by decide)) (xfr g45) (xlo xsw0 (by decide) g46) (xKv hq (fun h47 hq e49 => ?_) (fun _ _ q _ => q))
      replace hq := hq e49
      refine xP.pick (lv' := [(0, rv x0), (1, .int x1), (2, rv x2), (4, .int x4), (5, rv a4)]) [1, 2, 3, 5, 0] rfl ?_
      exact uX12_arrayOf_187 hq
set_option maxRecDepth 100000 in
def bX12_arrayOf_101 (G : xG) (fr lo : Nat) (x0 : Nat) (x1 : Int32) (x2 : Nat) (x3 : Nat) (h : xH) (Q : Outcome → xH → Prop) : Prop := tg h x2 = 29 ∧ 1 ≤ fr ∧ 12 ≤ lo ∧ xRi G YJ2_size (fr - 1) (lo - 12) [rv x2] h (fun x5 h4 => xext h h4 → lX12_arrayOf_109 G fr lo x0 x1 x2 x3 (x5 - 1) h4 Q) (fun r h2 => Q (.threw r) h2)
set_option maxRecDepth 100000 in
theorem uX12_arrayOf_101 {G : xG} {fr lo : Nat} {x0 : Nat} {x1 : Int32} {x2 : Nat} {x3 : Nat} {h : xH} {Q : Outcome → xH → Prop} (hq : bX12_arrayOf_101 G fr lo x0 x1 x2 x3 h Q) : xP G YX12_arrayOf fr lo 101 [(0, rv x0), (1, .int x1), (2, rv x2), (3, rv x3)] [] h Q := by
  unfold bX12_arrayOf_101 at hq
  refine x_aload_n 2 dX12_arrayOf_101 rfl ?_
  obtain ⟨g1, hq⟩ := hq
  obtain ⟨g2, g3, hq⟩ := hq
  refine x_callV (Yc := YJ2_size) (as := []) (st := []) q4067 mvJ2_size g1 rfl dX12_arrayOf_102 (xle (xal1 (rv_cat _) xal0) (by decide)) (xfr g2) (xlo xsw0 (by decide) g3) (xKi hq (fun x5 h4 hq e6 => ?_) (fun _ _ q _ => q))
  replace hq := hq e6
  refine x_iconst (v := 1) dX12_arrayOf_105 (by decide) ?_
  refine x_isub dX12_arrayOf_106 ?_
  refine x_istore (lv' := [(4, .int (x5 - 1)), (0, rv x0), (1, .int x1), (2, rv x2), (3, rv x3)]) dX12_arrayOf_107 (by decide) (by first | rfl | (simp [rv_cat, Value.category]; done) | (simp [rv_cat, Value.category]; decide)) ?_
  refine xP.pick (lv' := [(0, rv x0), (1, .int x1), (2, rv x2), (3, rv x3), (4, .int (x5 - 1))]) [1, 2, 3, 4, 0] rfl ?_
  exact hq
set_option maxRecDepth 100000 in
def bX12_arrayOf_52 (G : xG) (fr lo : Nat) (x0 : Nat) (x1 : Int32) (x2 : Nat) (x3 : Int32) (x4 : Nat) (h : xH) (Q : Outcome → xH → Prop) : Prop := tg h x2 = 29 ∧ 1 ≤ fr ∧ 13 ≤ lo ∧ xRi G YJ2_add (fr - 1) (lo - 13) [rv x2, rv x4] h (fun x5 h4 => xext h h4 → tg h4 x0 = 13 ∧ tg h4 (fR h4 x0 3105) = 100 ∧ vp_in x3 (ln h4 (fR h4 x0 3105)) ∧ lX12_arrayOf_20 G fr lo x0 x1 x2 (aI h4 (fR h4 x0 3105) (Int32.toNatClampNeg x3)) h4 Q) (fun r h2 => Q (.threw r) h2)
set_option maxRecDepth 100000 in
theorem uX12_arrayOf_52 {G : xG} {fr lo : Nat} {x0 : Nat} {x1 : Int32} {x2 : Nat} {x3 : Int32} {x4 : Nat} {h : xH} {Q : Outcome → xH → Prop} (hq : bX12_arrayOf_52 G fr lo x0 x1 x2 x3 x4 h Q) : xP G YX12_arrayOf fr lo 52 [(0, rv x0), (1, .int x1), (2, rv x2), (3, .int x3), (4, rv x4)] [] h Q := by
  unfold bX12_arrayOf_52 at hq
  refine x_aload_n 2 dX12_arrayOf_52 rfl ?_
  refine x_aload 4 dX12_arrayOf_53 rfl ?_
  obtain ⟨g1, hq⟩ := hq
  obtain ⟨g2, g3, hq⟩ := hq
  refine x_callV (Yc := YJ2_add) (as := [rv x4]) (st := []) q4030 mvJ2_add g1 rfl dX12_arrayOf_55 (xle (xal1 (rv_cat _) (xal1 (rv_cat _) xal0)) (by decide)) (xfr g2) (xlo xsw0 (by decide) g3) (xKi hq (fun x5 h4 hq e6 => ?_) (fun _ _ q _ => q))
  replace hq := hq e6
  refine x_pop dX12_arrayOf_58 rfl ?_
  refine x_aload_n 0 dX12_arrayOf_59 rfl ?_
  obtain ⟨g7, hq⟩ := hq
  refine x_get (v := rv (fR h4 x0 3105)) fdX12_79 dX12_arrayOf_60 g7 rfl ?_
  refine x_iload_n 3 dX12_arrayOf_63 rfl ?_
  obtain ⟨g8, hq⟩ := hq
  obtain ⟨i9, hq⟩ := hq
  refine x_iald 0 (Or.inl rfl) g8 i9 dX12_arrayOf_64 ?_
  refine x_istore_n (lv' := [(3, .int (aI h4 (fR h4 x0 3105) (Int32.toNatClampNeg x3))), (0, rv x0), (1, .int x1), (2, rv x2), (4, rv x4)]) dX12_arrayOf_65 (by decide) (by first | rfl | (simp [rv_cat, Value.category]; done) | (simp [rv_cat, Value.category]; decide)) ?_
  refine x_goto (tgt := 20) dX12_arrayOf_66 (by decide) ?_
  refine xP.pick (lv' := [(0, rv x0), (1, .int x1), (2, rv x2), (3, .int (aI h4 (fR h4 x0 3105) (Int32.toNatClampNeg x3)))]) [1, 2, 3, 0] rfl ?_
  exact hq
set_option maxRecDepth 100000 in
def bX12_arrayOf_20 (G : xG) (fr lo : Nat) (x0 : Nat) (x1 : Int32) (x2 : Nat) (x3 : Int32) (h : xH) (Q : Outcome → xH → Prop) : Prop := ((x3 = (-1) → tg h x0 = 13 ∧ 1 ≤ fr ∧ 17 ≤ lo ∧ xRi G YX12_child (fr - 1) (lo - 17) [rv x0, .int x1, .int 1] h (fun x6 h5 => xext h h5 → 1 ≤ fr ∧ 16 ≤ lo ∧ xRr G YX12_typeOf (fr - 1) (lo - 16) [rv x0, .int x6] h5 (fun x12 h11 => xext h5 h11 → tg h11 x12 = 14 ∧ ((¬ (fI h11 x12 3328) = 10 → bX12_arrayOf_101 G fr lo x0 x1 x2 x12 h11 Q) ∧ ((fI h11 x12 3328) = 10 → tg h11 (fR h11 x0 3106) = 100 ∧ vp_in x1 (ln h11 (fR h11 x0 3106)) ∧ 1 ≤ fr ∧ 14 ≤ lo ∧ xRv G YX12_refuse (fr - 1) (lo - 14) [rv x0, .int 7, .int (aI h11 (fR h11 x0 3106) (Int32.toNatClampNeg x1))] h11 (fun h21 => xext h11 h21 → bX12_arrayOf_101 G fr lo x0 x1 x2 x12 h21 Q) (fun r h2 => Q (.threw r) h2)))) (fun r h2 => Q (.threw r) h2)) (fun r h2 => Q (.threw r) h2)) ∧ (¬ x3 = (-1) → tg h x0 = 13 ∧ 1 ≤ fr ∧ 16 ≤ lo ∧ xRr G YX12_typeOf (fr - 1) (lo - 16) [rv x0, .int x3] h (fun x28 h27 => xext h h27 → tg h27 x28 = 14 ∧ 1 ≤ fr ∧ 12 ≤ lo ∧ xRi G YX13_isOrdinal (fr - 1) (lo - 12) [rv x28] h27 (fun x34 h33 => xext h27 h33 → ((¬ x34 = 0 → bX12_arrayOf_52 G fr lo x0 x1 x2 x3 x28 h33 Q) ∧ (x34 = 0 → tg h33 (fR h33 x0 3102) = 100 ∧ vp_in x3 (ln h33 (fR h33 x0 3102)) ∧ 1 ≤ fr ∧ 14 ≤ lo ∧ xRv G YX12_refuse (fr - 1) (lo - 14) [rv x0, .int 7, .int (aI h33 (fR h33 x0 3102) (Int32.toNatClampNeg x3))] h33 (fun h43 => xext h33 h43 → bX12_arrayOf_52 G fr lo x0 x1 x2 x3 x28 h43 Q) (fun r h2 => Q (.threw r) h2)))) (fun r h2 => Q (.threw r) h2)) (fun r h2 => Q (.threw r) h2)))
set_option maxRecDepth 100000 in
theorem uX12_arrayOf_20 {G : xG} {fr lo : Nat} {x0 : Nat} {x1 : Int32} {x2 : Nat} {x3 : Int32} {h : xH} {Q : Outcome → xH → Prop} (hq : bX12_arrayOf_20 G fr lo x0 x1 x2 x3 h Q) : xP G YX12_arrayOf fr lo 20 [(0, rv x0), (1, .int x1), (2, rv x2), (3, .int x3)] [] h Q := by
  unfold bX12_arrayOf_20 at hq
  refine x_iload_n 3 dX12_arrayOf_20 rfl ?_
  refine x_iconst (v := (-1)) dX12_arrayOf_21 (by decide) ?_
  refine x_icmp_eq (tgt := 69) dX12_arrayOf_22 (by decide) (fun c1 => ?_) (fun c1 => ?_)
  · replace hq := hq.1 c1
    refine x_aload_n 0 dX12_arrayOf_69 rfl ?_
    refine x_aload_n 0 dX12_arrayOf_70 rfl ?_
    refine x_iload_n 1 dX12_arrayOf_71 rfl ?_
    refine x_iconst (v := 1) dX12_arrayOf_72 (by decide) ?_
    obtain ⟨g2, hq⟩ := hq
    obtain ⟨g3, g4, hq⟩ := hq
    refine x_callV (Yc := YX12_child) (as := [.int x1, .int 1]) (st := [rv x0]) q4126 mvX12_child g2 rfl dX12_arrayOf_73 (xle (xal1 (rv_cat _) (xal1 rfl (xal1 rfl xal0))) (by decide)) (xfr g3) (xlo (xsw1 (rv_cat _) xsw0) (by decide) g4) (xKi hq (fun x6 h5 hq e7 => ?_) (fun _ _ q _ => q))
    replace hq := hq e7
    have t8 : tg h5 x0 = 13 := e7.tg g2 (by decide)
    obtain ⟨g9, g10, hq⟩ := hq
    refine x_callV (Yc := YX12_typeOf) (as := [.int x6]) (st := []) q4173 mvX12_typeOf t8 rfl dX12_arrayOf_76 (xle (xal1 (rv_cat _) (xal1 rfl xal0)) (by decide)) (xfr g9) (xlo xsw0 (by decide) g10) (xKr hq (fun x12 h11 hq e13 => ?_) (fun _ _ q _ => q))
    replace hq := hq e13
    refine x_astore_n (lv' := [(3, rv x12), (0, rv x0), (1, .int x1), (2, rv x2)]) dX12_arrayOf_79 (by decide) (by first | rfl | (simp [rv_cat, Value.category]; done) | (simp [rv_cat, Value.category]; decide)) ?_
    refine x_aload_n 0 dX12_arrayOf_80 rfl ?_
    obtain ⟨g14, hq⟩ := hq
    refine x_get (v := .int (fI h11 x12 3328)) fdX12_845 dX12_arrayOf_81 g14 rfl ?_
    refine x_bipush (v := 10) dX12_arrayOf_84 (by decide) ?_
    refine x_icmp_ne (tgt := 101) dX12_arrayOf_86 (by decide) (fun c15 => ?_) (fun c15 => ?_)
    · replace hq := hq.1 c15
      refine xP.pick (lv' := [(0, rv x0), (1, .int x1), (2, rv x2), (3, rv x12)]) [1, 2, 3, 0] rfl ?_
      exact uX12_arrayOf_101 hq
    · replace hq := hq.2 c15
      refine x_aload_n 1 dX12_arrayOf_89 rfl ?_
      refine x_bipush (v := 7) dX12_arrayOf_90 (by decide) ?_
      refine x_aload_n 1 dX12_arrayOf_92 rfl ?_
      have t16 : tg h11 x0 = 13 := e13.tg t8 (by decide)
      refine x_get (v := rv (fR h11 x0 3106)) fdX12_82 dX12_arrayOf_93 t16 rfl ?_
      refine x_iload_n 2 dX12_arrayOf_96 rfl ?_
      obtain ⟨g17, hq⟩ := hq
      obtain ⟨i18, hq⟩ := hq
      refine x_iald 0 (Or.inl rfl) g17 i18 dX12_arrayOf_97 ?_
      obtain ⟨g19, g20, hq⟩ := hq
      refine x_callV (Yc := YX12_refuse) (as := [.int 7, .int (aI h11 (fR h11 x0 3106) (Int32.toNatClampNeg x1))]) (st := []) q4095 mvX12_refuse t16 rfl dX12_arrayOf_98 (xle (xal1 (rv_cat _) (xal1 rfl (xal1 rfl xal0))) (by decide)) (xfr g19) (xlo xsw0 (by decide) g20) (xKv hq (fun h21 hq e23 => ?_) (fun _ _ q _ => q))
      replace hq := hq e23
      refine xP.pick (lv' := [(0, rv x0), (1, .int x1), (2, rv x2), (3, rv x12)]) [1, 2, 3, 0] rfl ?_
      exact uX12_arrayOf_101 hq
  · replace hq := hq.2 c1
    refine x_aload_n 0 dX12_arrayOf_25 rfl ?_
    refine x_iload_n 3 dX12_arrayOf_26 rfl ?_
    obtain ⟨g24, hq⟩ := hq
    obtain ⟨g25, g26, hq⟩ := hq
    refine x_callV (Yc := YX12_typeOf) (as := [.int x3]) (st := []) q4173 mvX12_typeOf g24 rfl dX12_arrayOf_27 (xle (xal1 (rv_cat _) (xal1 rfl xal0)) (by decide)) (xfr g25) (xlo xsw0 (by decide) g26) (xKr hq (fun x28 h27 hq e29 => ?_) (fun _ _ q _ => q))
    replace hq := hq e29
    refine x_astore (lv' := [(4, rv x28), (0, rv x0), (1, .int x1), (2, rv x2), (3, .int x3)]) dX12_arrayOf_30 (by decide) rfl ?_
    refine x_aload 0 dX12_arrayOf_32 rfl ?_
    obtain ⟨g30, hq⟩ := hq
    obtain ⟨g31, g32, hq⟩ := hq
    refine x_callV (Yc := YX13_isOrdinal) (as := []) (st := []) q4185 mvX13_isOrdinal g30 rfl dX12_arrayOf_34 (xle (xal1 (rv_cat _) xal0) (by decide)) (xfr g31) (xlo xsw0 (by decide) g32) (xKi hq (fun x34 h33 hq e35 => ?_) (fun _ _ q _ => q))
    replace hq := hq e35
    refine x_if_ne (tgt := 52) dX12_arrayOf_37 (by decide) (fun c36 => ?_) (fun c36 => ?_)
    · replace hq := hq.1 c36
      refine xP.pick (lv' := [(0, rv x0), (1, .int x1), (2, rv x2), (3, .int x3), (4, rv x28)]) [1, 2, 3, 4, 0] rfl ?_
      exact uX12_arrayOf_52 hq
    · replace hq := hq.2 c36
      refine x_aload_n 1 dX12_arrayOf_40 rfl ?_
      refine x_bipush (v := 7) dX12_arrayOf_41 (by decide) ?_
      refine x_aload_n 1 dX12_arrayOf_43 rfl ?_
      have t37 : tg h27 x0 = 13 := e29.tg g24 (by decide)
      have t38 : tg h33 x0 = 13 := e35.tg t37 (by decide)
      refine x_get (v := rv (fR h33 x0 3102)) fdX12_70 dX12_arrayOf_44 t38 rfl ?_
      refine x_iload_n 4 dX12_arrayOf_47 rfl ?_
      obtain ⟨g39, hq⟩ := hq
      obtain ⟨i40, hq⟩ := hq
      refine x_iald 0 (Or.inl rfl) g39 i40 dX12_arrayOf_48 ?_
      obtain ⟨g41, g42, hq⟩ := hq
      refine x_callV (Yc := YX12_refuse) (as := [.int 7, .int (aI h33 (fR h33 x0 3102) (Int32.toNatClampNeg x3))]) (st := []) q4095 mvX12_refuse t38 rfl dX12_arrayOf_49 (xle (xal1 (rv_cat _) (xal1 rfl (xal1 rfl xal0))) (by decide)) (xfr g41) (xlo xsw0 (by decide) g42) (xKv hq (fun h43 hq e45 => ?_) (fun _ _ q _ => q))
      replace hq := hq e45
      refine xP.pick (lv' := [(0, rv x0), (1, .int x1), (2, rv x2), (3, .int x3), (4, rv x28)]) [1, 2, 3, 4, 0] rfl ?_
      exact uX12_arrayOf_52 hq
set_option maxRecDepth 100000 in
def bX12_arrayOf (G : xG) (fr lo : Nat) (x0 : Nat) (x1 : Int32) (h : xH) (Q : Outcome → xH → Prop) : Prop := nx h + 1 ≤ xGN G ∧ us h + 3 ≤ xGU G ∧ (∀ (a3 : Nat) (h4 : xH), a3 = nx h + 1 → h4 = nO h 29 3 → xfresh h a3 → 1 ≤ fr ∧ 13 ≤ lo ∧ xRv G YJ2_init_2 (fr - 1) (lo - 13) [rv a3] h4 (fun h11 => xext h4 h11 → tg h11 x0 = 13 ∧ tg h11 (fR h11 x0 3103) = 100 ∧ vp_in x1 (ln h11 (fR h11 x0 3103)) ∧ vp_in (aI h11 (fR h11 x0 3103) (Int32.toNatClampNeg x1)) (ln h11 (fR h11 x0 3103)) ∧ lX12_arrayOf_20 G fr lo x0 x1 a3 (aI h11 (fR h11 x0 3103) (Int32.toNatClampNeg (aI h11 (fR h11 x0 3103) (Int32.toNatClampNeg x1)))) h11 Q) (fun r h2 => Q (.threw r) h2))
set_option maxRecDepth 100000 in
theorem uX12_arrayOf {G : xG} {fr lo : Nat} {x0 : Nat} {x1 : Int32} {h : xH} {Q : Outcome → xH → Prop} (hq : bX12_arrayOf G fr lo x0 x1 h Q) : xP G YX12_arrayOf fr lo 0 [(0, rv x0), (1, .int x1)] [] h Q := by
  unfold bX12_arrayOf at hq
  obtain ⟨g1, g2, hq⟩ := hq
  obtain ⟨a3, e5⟩ : ∃ y, y = nx h + 1 := ⟨_, rfl⟩
  obtain ⟨h4, e6⟩ : ∃ y, y = nO h 29 3 := ⟨_, rfl⟩
  refine x_new' cdX12_131 dX12_arrayOf_0 g1 g2 e5 e6 (fun f7 => ?_)
  replace hq := hq a3 h4 e5 e6 f7
  have t8 : tg h4 a3 = 29 := by rw [e6, e5]; exact tg_nO
  refine x_dup dX12_arrayOf_3 (rv_cat _) ?_
  obtain ⟨g9, g10, hq⟩ := hq
  refine x_callI (Yc := YJ2_init_2) (as := []) (st := [rv a3]) q3246 miJ2_init_2 (by rw [t8]; decide) rfl dX12_arrayOf_4 (xle (xal1 (rv_cat _) xal0) (by decide)) (xfr g9) (xlo (xsw1 (rv_cat _) xsw0) (by decide) g10) (xKv hq (fun h11 hq e13 => ?_) (fun _ _ q _ => q))
  replace hq := hq e13
  refine x_astore_n (lv' := [(2, rv a3), (0, rv x0), (1, .int x1)]) dX12_arrayOf_7 (by decide) rfl ?_
  refine x_aload_n 1 dX12_arrayOf_8 rfl ?_
  obtain ⟨g14, hq⟩ := hq
  refine x_get (v := rv (fR h11 x0 3103)) fdX12_73 dX12_arrayOf_9 g14 rfl ?_
  refine x_aload_n 1 dX12_arrayOf_12 rfl ?_
  refine x_get (v := rv (fR h11 x0 3103)) fdX12_73 dX12_arrayOf_13 g14 rfl ?_
  refine x_iload_n 2 dX12_arrayOf_16 rfl ?_
  obtain ⟨g15, hq⟩ := hq
  obtain ⟨i16, hq⟩ := hq
  refine x_iald 0 (Or.inl rfl) g15 i16 dX12_arrayOf_17 ?_
  obtain ⟨i17, hq⟩ := hq
  refine x_iald 0 (Or.inl rfl) g15 i17 dX12_arrayOf_18 ?_
  refine x_istore_n (lv' := [(3, .int (aI h11 (fR h11 x0 3103) (Int32.toNatClampNeg (aI h11 (fR h11 x0 3103) (Int32.toNatClampNeg x1))))), (2, rv a3), (0, rv x0), (1, .int x1)]) dX12_arrayOf_19 (by decide) (by first | rfl | (simp [rv_cat, Value.category]; done) | (simp [rv_cat, Value.category]; decide)) ?_
  refine xP.pick (lv' := [(0, rv x0), (1, .int x1), (2, rv a3), (3, .int (aI h11 (fR h11 x0 3103) (Int32.toNatClampNeg (aI h11 (fR h11 x0 3103) (Int32.toNatClampNeg x1)))))]) [2, 3, 1, 0] rfl ?_
  exact hq
theorem rX12_arrayOf {G : xG} {fr lo : Nat} {x0 : Nat} {x1 : Int32} {h : xH} {Q : Outcome → xH → Prop} (hq : bX12_arrayOf G fr lo x0 x1 h Q) : xR G YX12_arrayOf fr lo [rv x0, .int x1] h Q := by
  show xP _ _ _ _ _ (lv_args 0 _) _ _ _
  rw [show lv_args 0 [rv x0, .int x1] = [(0, rv x0), (1, .int x1)] from (xla1 (rv_cat _) (xla1 rfl xla0))]
  exact uX12_arrayOf hq
set_option maxRecDepth 100000 in
theorem dX12_fieldsOf_0 : decode cX12_fieldsOf 0 = .ok (.aload_n 0, 1) := by decide +kernel
set_option maxRecDepth 100000 in
theorem dX12_fieldsOf_1 : decode cX12_fieldsOf 1 = .ok (.getfield 73, 3) := by decide +kernel
set_option maxRecDepth 100000 in
theorem dX12_fieldsOf_4 : decode cX12_fieldsOf 4 = .ok (.iload_n 1, 1) := by decide +kernel
set_option maxRecDepth 100000 in
theorem dX12_fieldsOf_5 : decode cX12_fieldsOf 5 = .ok (.iaload, 1) := by decide +kernel
set_option maxRecDepth 100000 in
theorem dX12_fieldsOf_6 : decode cX12_fieldsOf 6 = .ok (.istore 5, 2) := by decide +kernel
set_option maxRecDepth 100000 in
theorem dX12_fieldsOf_8 : decode cX12_fieldsOf 8 = .ok (.iload 5, 2) := by decide +kernel
set_option maxRecDepth 100000 in
theorem dX12_fieldsOf_10 : decode cX12_fieldsOf 10 = .ok (.iconst (-1), 1) := by decide +kernel
set_option maxRecDepth 100000 in
theorem dX12_fieldsOf_11 : decode cX12_fieldsOf 11 = .ok (.if_icmp .eq 126, 3) := by decide +kernel
set_option maxRecDepth 100000 in
theorem dX12_fieldsOf_14 : decode cX12_fieldsOf 14 = .ok (.aload_n 0, 1) := by decide +kernel
set_option maxRecDepth 100000 in
theorem dX12_fieldsOf_15 : decode cX12_fieldsOf 15 = .ok (.getfield 67, 3) := by decide +kernel
set_option maxRecDepth 100000 in
theorem dX12_fieldsOf_18 : decode cX12_fieldsOf 18 = .ok (.iload 5, 2) := by decide +kernel
set_option maxRecDepth 100000 in
theorem dX12_fieldsOf_20 : decode cX12_fieldsOf 20 = .ok (.iaload, 1) := by decide +kernel
set_option maxRecDepth 100000 in
theorem dX12_fieldsOf_21 : decode cX12_fieldsOf 21 = .ok (.bipush 19, 2) := by decide +kernel
set_option maxRecDepth 100000 in
theorem dX12_fieldsOf_23 : decode cX12_fieldsOf 23 = .ok (.if_icmp .ne 16, 3) := by decide +kernel
set_option maxRecDepth 100000 in
theorem dX12_fieldsOf_26 : decode cX12_fieldsOf 26 = .ok (.aload_n 0, 1) := by decide +kernel
set_option maxRecDepth 100000 in
theorem dX12_fieldsOf_27 : decode cX12_fieldsOf 27 = .ok (.iload 5, 2) := by decide +kernel
set_option maxRecDepth 100000 in
theorem dX12_fieldsOf_29 : decode cX12_fieldsOf 29 = .ok (.aload_n 2, 1) := by decide +kernel
set_option maxRecDepth 100000 in
theorem dX12_fieldsOf_30 : decode cX12_fieldsOf 30 = .ok (.aload_n 3, 1) := by decide +kernel
set_option maxRecDepth 100000 in
theorem dX12_fieldsOf_31 : decode cX12_fieldsOf 31 = .ok (.iload 4, 2) := by decide +kernel
set_option maxRecDepth 100000 in
theorem dX12_fieldsOf_33 : decode cX12_fieldsOf 33 = .ok (.invokevirtual 878, 3) := by decide +kernel
set_option maxRecDepth 100000 in
theorem dX12_fieldsOf_36 : decode cX12_fieldsOf 36 = .ok (.goto 89, 3) := by decide +kernel
set_option maxRecDepth 100000 in
theorem dX12_fieldsOf_39 : decode cX12_fieldsOf 39 = .ok (.aload_n 0, 1) := by decide +kernel
set_option maxRecDepth 100000 in
theorem dX12_fieldsOf_40 : decode cX12_fieldsOf 40 = .ok (.aload_n 0, 1) := by decide +kernel
set_option maxRecDepth 100000 in
theorem dX12_fieldsOf_41 : decode cX12_fieldsOf 41 = .ok (.iload 5, 2) := by decide +kernel
set_option maxRecDepth 100000 in
theorem dX12_fieldsOf_43 : decode cX12_fieldsOf 43 = .ok (.iconst 1, 1) := by decide +kernel
set_option maxRecDepth 100000 in
theorem dX12_fieldsOf_44 : decode cX12_fieldsOf 44 = .ok (.invokevirtual 734, 3) := by decide +kernel
set_option maxRecDepth 100000 in
theorem dX12_fieldsOf_47 : decode cX12_fieldsOf 47 = .ok (.invokevirtual 776, 3) := by decide +kernel
set_option maxRecDepth 100000 in
theorem dX12_fieldsOf_50 : decode cX12_fieldsOf 50 = .ok (.astore 6, 2) := by decide +kernel
set_option maxRecDepth 100000 in
theorem dX12_fieldsOf_52 : decode cX12_fieldsOf 52 = .ok (.aload 6, 2) := by decide +kernel
set_option maxRecDepth 100000 in
theorem dX12_fieldsOf_54 : decode cX12_fieldsOf 54 = .ok (.getfield 845, 3) := by decide +kernel
set_option maxRecDepth 100000 in
theorem dX12_fieldsOf_57 : decode cX12_fieldsOf 57 = .ok (.bipush 10, 2) := by decide +kernel
set_option maxRecDepth 100000 in
theorem dX12_fieldsOf_59 : decode cX12_fieldsOf 59 = .ok (.if_icmp .ne 16, 3) := by decide +kernel
set_option maxRecDepth 100000 in
theorem dX12_fieldsOf_62 : decode cX12_fieldsOf 62 = .ok (.aload_n 0, 1) := by decide +kernel
set_option maxRecDepth 100000 in
theorem dX12_fieldsOf_63 : decode cX12_fieldsOf 63 = .ok (.bipush 7, 2) := by decide +kernel
set_option maxRecDepth 100000 in
theorem dX12_fieldsOf_65 : decode cX12_fieldsOf 65 = .ok (.aload_n 0, 1) := by decide +kernel
set_option maxRecDepth 100000 in
theorem dX12_fieldsOf_66 : decode cX12_fieldsOf 66 = .ok (.getfield 82, 3) := by decide +kernel
set_option maxRecDepth 100000 in
theorem dX12_fieldsOf_69 : decode cX12_fieldsOf 69 = .ok (.iload 5, 2) := by decide +kernel
set_option maxRecDepth 100000 in
theorem dX12_fieldsOf_71 : decode cX12_fieldsOf 71 = .ok (.iaload, 1) := by decide +kernel
set_option maxRecDepth 100000 in
theorem dX12_fieldsOf_72 : decode cX12_fieldsOf 72 = .ok (.invokevirtual 570, 3) := by decide +kernel
set_option maxRecDepth 100000 in
theorem dX12_fieldsOf_75 : decode cX12_fieldsOf 75 = .ok (.aload_n 0, 1) := by decide +kernel
set_option maxRecDepth 100000 in
theorem dX12_fieldsOf_76 : decode cX12_fieldsOf 76 = .ok (.getfield 73, 3) := by decide +kernel
set_option maxRecDepth 100000 in
theorem dX12_fieldsOf_79 : decode cX12_fieldsOf 79 = .ok (.aload_n 0, 1) := by decide +kernel
set_option maxRecDepth 100000 in
theorem dX12_fieldsOf_80 : decode cX12_fieldsOf 80 = .ok (.getfield 73, 3) := by decide +kernel
set_option maxRecDepth 100000 in
theorem dX12_fieldsOf_83 : decode cX12_fieldsOf 83 = .ok (.iload 5, 2) := by decide +kernel
set_option maxRecDepth 100000 in
theorem dX12_fieldsOf_85 : decode cX12_fieldsOf 85 = .ok (.iaload, 1) := by decide +kernel
set_option maxRecDepth 100000 in
theorem dX12_fieldsOf_86 : decode cX12_fieldsOf 86 = .ok (.iaload, 1) := by decide +kernel
set_option maxRecDepth 100000 in
theorem dX12_fieldsOf_87 : decode cX12_fieldsOf 87 = .ok (.istore 7, 2) := by decide +kernel
set_option maxRecDepth 100000 in
theorem dX12_fieldsOf_89 : decode cX12_fieldsOf 89 = .ok (.iload 7, 2) := by decide +kernel
set_option maxRecDepth 100000 in
theorem dX12_fieldsOf_91 : decode cX12_fieldsOf 91 = .ok (.iconst (-1), 1) := by decide +kernel
set_option maxRecDepth 100000 in
theorem dX12_fieldsOf_92 : decode cX12_fieldsOf 92 = .ok (.if_icmp .eq 33, 3) := by decide +kernel
set_option maxRecDepth 100000 in
theorem dX12_fieldsOf_95 : decode cX12_fieldsOf 95 = .ok (.aload_n 0, 1) := by decide +kernel
set_option maxRecDepth 100000 in
theorem dX12_fieldsOf_96 : decode cX12_fieldsOf 96 = .ok (.aload_n 0, 1) := by decide +kernel
set_option maxRecDepth 100000 in
theorem dX12_fieldsOf_97 : decode cX12_fieldsOf 97 = .ok (.getfield 70, 3) := by decide +kernel
set_option maxRecDepth 100000 in
theorem dX12_fieldsOf_100 : decode cX12_fieldsOf 100 = .ok (.iload 7, 2) := by decide +kernel
set_option maxRecDepth 100000 in
theorem dX12_fieldsOf_102 : decode cX12_fieldsOf 102 = .ok (.iaload, 1) := by decide +kernel
set_option maxRecDepth 100000 in
theorem dX12_fieldsOf_103 : decode cX12_fieldsOf 103 = .ok (.aload 6, 2) := by decide +kernel
set_option maxRecDepth 100000 in
theorem dX12_fieldsOf_105 : decode cX12_fieldsOf 105 = .ok (.aload_n 2, 1) := by decide +kernel
set_option maxRecDepth 100000 in
theorem dX12_fieldsOf_106 : decode cX12_fieldsOf 106 = .ok (.aload_n 3, 1) := by decide +kernel
set_option maxRecDepth 100000 in
theorem dX12_fieldsOf_107 : decode cX12_fieldsOf 107 = .ok (.iload 4, 2) := by decide +kernel
set_option maxRecDepth 100000 in
theorem dX12_fieldsOf_109 : decode cX12_fieldsOf 109 = .ok (.invokevirtual 881, 3) := by decide +kernel
set_option maxRecDepth 100000 in
theorem dX12_fieldsOf_112 : decode cX12_fieldsOf 112 = .ok (.pop, 1) := by decide +kernel
set_option maxRecDepth 100000 in
theorem dX12_fieldsOf_113 : decode cX12_fieldsOf 113 = .ok (.aload_n 0, 1) := by decide +kernel
set_option maxRecDepth 100000 in
theorem dX12_fieldsOf_114 : decode cX12_fieldsOf 114 = .ok (.getfield 79, 3) := by decide +kernel
set_option maxRecDepth 100000 in
theorem dX12_fieldsOf_117 : decode cX12_fieldsOf 117 = .ok (.iload 7, 2) := by decide +kernel
set_option maxRecDepth 100000 in
theorem dX12_fieldsOf_119 : decode cX12_fieldsOf 119 = .ok (.iaload, 1) := by decide +kernel
set_option maxRecDepth 100000 in
theorem dX12_fieldsOf_120 : decode cX12_fieldsOf 120 = .ok (.istore 7, 2) := by decide +kernel
set_option maxRecDepth 100000 in
theorem dX12_fieldsOf_122 : decode cX12_fieldsOf 122 = .ok (.goto (-33), 3) := by decide +kernel
set_option maxRecDepth 100000 in
theorem dX12_fieldsOf_125 : decode cX12_fieldsOf 125 = .ok (.aload_n 0, 1) := by decide +kernel
set_option maxRecDepth 100000 in
theorem dX12_fieldsOf_126 : decode cX12_fieldsOf 126 = .ok (.getfield 79, 3) := by decide +kernel
set_option maxRecDepth 100000 in
theorem dX12_fieldsOf_129 : decode cX12_fieldsOf 129 = .ok (.iload 5, 2) := by decide +kernel
set_option maxRecDepth 100000 in
theorem dX12_fieldsOf_131 : decode cX12_fieldsOf 131 = .ok (.iaload, 1) := by decide +kernel
set_option maxRecDepth 100000 in
theorem dX12_fieldsOf_132 : decode cX12_fieldsOf 132 = .ok (.istore 5, 2) := by decide +kernel
set_option maxRecDepth 100000 in
theorem dX12_fieldsOf_134 : decode cX12_fieldsOf 134 = .ok (.goto (-126), 3) := by decide +kernel
set_option maxRecDepth 100000 in
theorem dX12_fieldsOf_137 : decode cX12_fieldsOf 137 = .ok (.return_, 1) := by decide +kernel
def lX12_fieldsOf_8 (G : xG) (fr lo : Nat) (x0 : Nat) (x2 : Nat) (x3 : Nat) (x4 : Int32) (x5 : Int32) (h : xH) (Q : Outcome → xH → Prop) : Prop := xP G YX12_fieldsOf fr lo 8 [(0, rv x0), (2, rv x2), (3, rv x3), (4, .int x4), (5, .int x5)] [] h Q
def lX12_fieldsOf_89 (G : xG) (fr lo : Nat) (x0 : Nat) (x2 : Nat) (x3 : Nat) (x4 : Int32) (x5 : Int32) (x6 : Nat) (x7 : Int32) (h : xH) (Q : Outcome → xH → Prop) : Prop := xP G YX12_fieldsOf fr lo 89 [(0, rv x0), (2, rv x2), (3, rv x3), (4, .int x4), (5, .int x5), (6, rv x6), (7, .int x7)] [] h Q
set_option maxRecDepth 100000 in
def bX12_fieldsOf_125 (G : xG) (fr lo : Nat) (x0 : Nat) (x2 : Nat) (x3 : Nat) (x4 : Int32) (x5 : Int32) (h : xH) (Q : Outcome → xH → Prop) : Prop := tg h x0 = 13 ∧ tg h (fR h x0 3105) = 100 ∧ vp_in x5 (ln h (fR h x0 3105)) ∧ lX12_fieldsOf_8 G fr lo x0 x2 x3 x4 (aI h (fR h x0 3105) (Int32.toNatClampNeg x5)) h Q
set_option maxRecDepth 100000 in
theorem uX12_fieldsOf_125 {G : xG} {fr lo : Nat} {x0 : Nat} {x2 : Nat} {x3 : Nat} {x4 : Int32} {x5 : Int32} {h : xH} {Q : Outcome → xH → Prop} (hq : bX12_fieldsOf_125 G fr lo x0 x2 x3 x4 x5 h Q) : xP G YX12_fieldsOf fr lo 125 [(0, rv x0), (2, rv x2), (3, rv x3), (4, .int x4), (5, .int x5)] [] h Q := by
  unfold bX12_fieldsOf_125 at hq
  refine x_aload_n 0 dX12_fieldsOf_125 rfl ?_
  obtain ⟨g1, hq⟩ := hq
  refine x_get (v := rv (fR h x0 3105)) fdX12_79 dX12_fieldsOf_126 g1 rfl ?_
  refine x_iload 4 dX12_fieldsOf_129 rfl ?_
  obtain ⟨g2, hq⟩ := hq
  obtain ⟨i3, hq⟩ := hq
  refine x_iald 0 (Or.inl rfl) g2 i3 dX12_fieldsOf_131 ?_
  refine x_istore (lv' := [(5, .int (aI h (fR h x0 3105) (Int32.toNatClampNeg x5))), (0, rv x0), (2, rv x2), (3, rv x3), (4, .int x4)]) dX12_fieldsOf_132 (by decide) rfl ?_
  refine x_goto (tgt := 8) dX12_fieldsOf_134 (by decide) ?_
  refine xP.pick (lv' := [(0, rv x0), (2, rv x2), (3, rv x3), (4, .int x4), (5, .int (aI h (fR h x0 3105) (Int32.toNatClampNeg x5)))]) [1, 2, 3, 4, 0] rfl ?_
  exact hq
set_option maxRecDepth 100000 in
def bX12_fieldsOf_89 (G : xG) (fr lo : Nat) (x0 : Nat) (x2 : Nat) (x3 : Nat) (x4 : Int32) (x5 : Int32) (x6 : Nat) (x7 : Int32) (h : xH) (Q : Outcome → xH → Prop) : Prop := ((x7 = (-1) → bX12_fieldsOf_125 G fr lo x0 x2 x3 x4 x5 h Q) ∧ (¬ x7 = (-1) → tg h x0 = 13 ∧ tg h (fR h x0 3102) = 100 ∧ vp_in x7 (ln h (fR h x0 3102)) ∧ 1 ≤ fr ∧ 18 ≤ lo ∧ xRr G YX12_field (fr - 1) (lo - 18) [rv x0, .int (aI h (fR h x0 3102) (Int32.toNatClampNeg x7)), rv x6, rv x2, rv x3, .int x4] h (fun x8 h7 => xext h h7 → tg h7 (fR h7 x0 3105) = 100 ∧ vp_in x7 (ln h7 (fR h7 x0 3105)) ∧ lX12_fieldsOf_89 G fr lo x0 x2 x3 x4 x5 x6 (aI h7 (fR h7 x0 3105) (Int32.toNatClampNeg x7)) h7 Q) (fun r h2 => Q (.threw r) h2)))
set_option maxRecDepth 100000 in
theorem uX12_fieldsOf_89 {G : xG} {fr lo : Nat} {x0 : Nat} {x2 : Nat} {x3 : Nat} {x4 : Int32} {x5 : Int32} {x6 : Nat} {x7 : Int32} {h : xH} {Q : Outcome → xH → Prop} (hq : bX12_fieldsOf_89 G fr lo x0 x2 x3 x4 x5 x6 x7 h Q) : xP G YX12_fieldsOf fr lo 89 [(0, rv x0), (2, rv x2), (3, rv x3), (4, .int x4), (5, .int x5), (6, rv x6), (7, .int x7)] [] h Q := by
  unfold bX12_fieldsOf_89 at hq
  refine x_iload 6 dX12_fieldsOf_89 rfl ?_
  refine x_iconst (v := (-1)) dX12_fieldsOf_91 (by decide) ?_
  refine x_icmp_eq (tgt := 125) dX12_fieldsOf_92 (by decide) (fun c1 => ?_) (fun c1 => ?_)
  · replace hq := hq.1 c1
    refine xP.pick (lv' := [(0, rv x0), (2, rv x2), (3, rv x3), (4, .int x4), (5, .int x5)]) [0, 1, 2, 3, 4] rfl ?_
    exact uX12_fieldsOf_125 hq
  · replace hq := hq.2 c1
    refine x_aload_n 0 dX12_fieldsOf_95 rfl ?_
    refine x_aload_n 0 dX12_fieldsOf_96 rfl ?_
    obtain ⟨g2, hq⟩ := hq
    refine x_get (v := rv (fR h x0 3102)) fdX12_70 dX12_fieldsOf_97 g2 rfl ?_
    refine x_iload 6 dX12_fieldsOf_100 rfl ?_
    obtain ⟨g3, hq⟩ := hq
    obtain ⟨i4, hq⟩ := hq
    refine x_iald 0 (Or.inl rfl) g3 i4 dX12_fieldsOf_102 ?_
    refine x_aload 5 dX12_fieldsOf_103 rfl ?_
    refine x_aload_n 1 dX12_fieldsOf_105 rfl ?_
    refine x_aload_n 2 dX12_fieldsOf_106 rfl ?_
    refine x_iload 3 dX12_fieldsOf_107 rfl ?_
    obtain ⟨g5, g6, hq⟩ := hq
    refine x_callV (Yc := YX12_field) (as := [.int (aI h (fR h x0 3102) (Int32.toNatClampNeg x7)), rv x6, rv x2, rv x3, .int x4]) (st := []) q4247 mvX12_field g2 rfl dX12_fieldsOf_109 (xle (xal1 (rv_cat _) (xal1 rfl (xal1 (rv_cat _) (xal1 (rv_cat _) (xal1 (rv_cat _) (xal1 rfl xal0)))))) (by decide)) (xfr g5) (xlo xsw0 (by decide) g6) (xKr hq (fun x8 h7 hq e9 => ?_) (fun _ _ q _ => q))
    replace hq := hq e9
    refine x_pop dX12_fieldsOf_112 (rv_cat _) ?_
    refine x_aload_n 0 dX12_fieldsOf_113 rfl ?_
    have t10 : tg h7 x0 = 13 := e9.tg g2 (by decide)
    refine x_get (v := rv (fR h7 x0 3105)) fdX12_79 dX12_fieldsOf_114 t10 rfl ?_
    refine x_iload 6 dX12_fieldsOf_117 rfl ?_
    obtain ⟨g11, hq⟩ := hq
    obtain ⟨i12, hq⟩ := hq
    refine x_iald 0 (Or.inl rfl) g11 i12 dX12_fieldsOf_119 ?_
    refine x_istore (lv' := [(7, .int (aI h7 (fR h7 x0 3105) (Int32.toNatClampNeg x7))), (0, rv x0), (2, rv x2), (3, rv x3), (4, .int x4), (5, .int x5), (6, rv x6)]) dX12_fieldsOf_120 (by decide) (by first | rfl | (simp [rv_cat, Value.category]; done) | (simp [rv_cat, Value.category]; decide)) ?_
    refine x_goto (tgt := 89) dX12_fieldsOf_122 (by decide) ?_
    refine xP.pick (lv' := [(0, rv x0), (2, rv x2), (3, rv x3), (4, .int x4), (5, .int x5), (6, rv x6), (7, .int (aI h7 (fR h7 x0 3105) (Int32.toNatClampNeg x7)))]) [1, 2, 3, 4, 5, 6, 0] rfl ?_
    exact hq
set_option maxRecDepth 100000 in
def bX12_fieldsOf_75 (G : xG) (fr lo : Nat) (x0 : Nat) (x2 : Nat) (x3 : Nat) (x4 : Int32) (x5 : Int32) (x6 : Nat) (h : xH) (Q : Outcome → xH → Prop) : Prop := tg h x0 = 13 ∧ tg h (fR h x0 3103) = 100 ∧ vp_in x5 (ln h (fR h x0 3103)) ∧ vp_in (aI h (fR h x0 3103) (Int32.toNatClampNeg x5)) (ln h (fR h x0 3103)) ∧ lX12_fieldsOf_89 G fr lo x0 x2 x3 x4 x5 x6 (aI h (fR h x0 3103) (Int32.toNatClampNeg (aI h (fR h x0 3103) (Int32.toNatClampNeg x5)))) h Q
set_option maxRecDepth 100000 in
theorem uX12_fieldsOf_75 {G : xG} {fr lo : Nat} {x0 : Nat} {x2 : Nat} {x3 : Nat} {x4 : Int32} {x5 : Int32} {x6 : Nat} {h : xH} {Q : Outcome → xH → Prop} (hq : bX12_fieldsOf_75 G fr lo x0 x2 x3 x4 x5 x6 h Q) : xP G YX12_fieldsOf fr lo 75 [(0, rv x0), (2, rv x2), (3, rv x3), (4, .int x4), (5, .int x5), (6, rv x6)] [] h Q := by
  unfold bX12_fieldsOf_75 at hq
  refine x_aload_n 0 dX12_fieldsOf_75 rfl ?_
  obtain ⟨g1, hq⟩ := hq
  refine x_get (v := rv (fR h x0 3103)) fdX12_73 dX12_fieldsOf_76 g1 rfl ?_
  refine x_aload_n 0 dX12_fieldsOf_79 rfl ?_
  refine x_get (v := rv (fR h x0 3103)) fdX12_73 dX12_fieldsOf_80 g1 rfl ?_
  refine x_iload 4 dX12_fieldsOf_83 rfl ?_
  obtain ⟨g2, hq⟩ := hq
  obtain ⟨i3, hq⟩ := hq
  refine x_iald 0 (Or.inl rfl) g2 i3 dX12_fieldsOf_85 ?_
  obtain ⟨i4, hq⟩ := hq
  refine x_iald 0 (Or.inl rfl) g2 i4 dX12_fieldsOf_86 ?_
  refine x_istore (lv' := [(7, .int (aI h (fR h x0 3103) (Int32.toNatClampNeg (aI h (fR h x0 3103) (Int32.toNatClampNeg x5))))), (0, rv x0), (2, rv x2), (3, rv x3), (4, .int x4), (5, .int x5), (6, rv x6)]) dX12_fieldsOf_87 (by decide) (by first | rfl | (simp [rv_cat, Value.category]; done) | (simp [rv_cat, Value.category]; decide)) ?_
  refine xP.pick (lv' := [(0, rv x0), (2, rv x2), (3, rv x3), (4, .int x4), (5, .int x5), (6, rv x6), (7, .int (aI h (fR h x0 3103) (Int32.toNatClampNeg (aI h (fR h x0 3103) (Int32.toNatClampNeg x5)))))]) [1, 2, 3, 4, 5, 6, 0] rfl ?_
  exact hq
set_option maxRecDepth 100000 in
def bX12_fieldsOf_8 (G : xG) (fr lo : Nat) (x0 : Nat) (x2 : Nat) (x3 : Nat) (x4 : Int32) (x5 : Int32) (h : xH) (Q : Outcome → xH → Prop) : Prop := ((x5 = (-1) → Q (.returned none) h) ∧ (¬ x5 = (-1) → tg h x0 = 13 ∧ tg h (fR h x0 3101) = 100 ∧ vp_in x5 (ln h (fR h x0 3101)) ∧ ((¬ (aI h (fR h x0 3101) (Int32.toNatClampNeg x5)) = 19 → 1 ≤ fr ∧ 17 ≤ lo ∧ xRi G YX12_child (fr - 1) (lo - 17) [rv x0, .int x5, .int 1] h (fun x9 h8 => xext h h8 → 1 ≤ fr ∧ 16 ≤ lo ∧ xRr G YX12_typeOf (fr - 1) (lo - 16) [rv x0, .int x9] h8 (fun x15 h14 => xext h8 h14 → tg h14 x15 = 14 ∧ ((¬ (fI h14 x15 3328) = 10 → bX12_fieldsOf_75 G fr lo x0 x2 x3 x4 x5 x15 h14 Q) ∧ ((fI h14 x15 3328) = 10 → tg h14 (fR h14 x0 3106) = 100 ∧ vp_in x5 (ln h14 (fR h14 x0 3106)) ∧ 1 ≤ fr ∧ 14 ≤ lo ∧ xRv G YX12_refuse (fr - 1) (lo - 14) [rv x0, .int 7, .int (aI h14 (fR h14 x0 3106) (Int32.toNatClampNeg x5))] h14 (fun h24 => xext h14 h24 → bX12_fieldsOf_75 G fr lo x0 x2 x3 x4 x5 x15 h24 Q) (fun r h2 => Q (.threw r) h2)))) (fun r h2 => Q (.threw r) h2)) (fun r h2 => Q (.threw r) h2)) ∧ ((aI h (fR h x0 3101) (Int32.toNatClampNeg x5)) = 19 → 1 ≤ fr ∧ 23 ≤ lo ∧ xRv G YX12_variantsOf (fr - 1) (lo - 23) [rv x0, .int x5, rv x2, rv x3, .int x4] h (fun h29 => xext h h29 → bX12_fieldsOf_125 G fr lo x0 x2 x3 x4 x5 h29 Q) (fun r h2 => Q (.threw r) h2)))))
set_option maxRecDepth 100000 in
theorem uX12_fieldsOf_8 {G : xG} {fr lo : Nat} {x0 : Nat} {x2 : Nat} {x3 : Nat} {x4 : Int32} {x5 : Int32} {h : xH} {Q : Outcome → xH → Prop} (hq : bX12_fieldsOf_8 G fr lo x0 x2 x3 x4 x5 h Q) : xP G YX12_fieldsOf fr lo 8 [(0, rv x0), (2, rv x2), (3, rv x3), (4, .int x4), (5, .int x5)] [] h Q := by
  unfold bX12_fieldsOf_8 at hq
  refine x_iload 4 dX12_fieldsOf_8 rfl ?_
  refine x_iconst (v := (-1)) dX12_fieldsOf_10 (by decide) ?_
  refine x_icmp_eq (tgt := 137) dX12_fieldsOf_11 (by decide) (fun c1 => ?_) (fun c1 => ?_)
  · replace hq := hq.1 c1
    exact x_vret rfl dX12_fieldsOf_137 hq
  · replace hq := hq.2 c1
    refine x_aload_n 0 dX12_fieldsOf_14 rfl ?_
    obtain ⟨g2, hq⟩ := hq
    refine x_get (v := rv (fR h x0 3101)) fdX12_67 dX12_fieldsOf_15 g2 rfl ?_
    refine x_iload 4 dX12_fieldsOf_18 rfl ?_
    obtain ⟨g3, hq⟩ := hq
    obtain ⟨i4, hq⟩ := hq
    refine x_iald 0 (Or.inl rfl) g3 i4 dX12_fieldsOf_20 ?_
    refine x_bipush (v := 19) dX12_fieldsOf_21 (by decide) ?_
    refine x_icmp_ne (tgt := 39) dX12_fieldsOf_23 (by decide) (fun c5 => ?_) (fun c5 => ?_)
    · replace hq := hq.1 c5
      refine x_aload_n 0 dX12_fieldsOf_39 rfl ?_
      refine x_aload_n 0 dX12_fieldsOf_40 rfl ?_
      refine x_iload 4 dX12_fieldsOf_41 rfl ?_
      refine x_iconst (v := 1) dX12_fieldsOf_43 (by decide) ?_
      obtain ⟨g6, g7, hq⟩ := hq
      refine x_callV (Yc := YX12_child) (as := [.int x5, .int 1]) (st := [rv x0]) q4126 mvX12_child g2 rfl dX12_fieldsOf_44 (xle (xal1 (rv_cat _) (xal1 rfl (xal1 rfl xal0))) (by decide)) (xfr g6) (xlo (xsw1 (rv_cat _) xsw0) (by decide) g7) (xKi hq (fun x9 h8 hq e10 => ?_) (fun _ _ q _ => q))
      replace hq := hq e10
      have t11 : tg h8 x0 = 13 := e10.tg g2 (by decide)
      obtain ⟨g12, g13, hq⟩ := hq
      refine x_callV (Yc := YX12_typeOf) (as := [.int x9]) (st := []) q4173 mvX12_typeOf t11 rfl dX12_fieldsOf_47 (xle (xal1 (rv_cat _) (xal1 rfl xal0)) (by decide)) (xfr g12) (xlo xsw0 (by decide) g13) (xKr hq (fun x15 h14 hq e16 => ?_) (fun _ _ q _ => q))
      replace hq := hq e16
      refine x_astore (lv' := [(6, rv x15), (0, rv x0), (2, rv x2), (3, rv x3), (4, .int x4), (5, .int x5)]) dX12_fieldsOf_50 (by decide) rfl ?_
      refine x_aload 0 dX12_fieldsOf_52 rfl ?_
      obtain ⟨g17, hq⟩ := hq
      refine x_get (v := .int (fI h14 x15 3328)) fdX12_845 dX12_fieldsOf_54 g17 rfl ?_
      refine x_bipush (v := 10) dX12_fieldsOf_57 (by decide) ?_
      refine x_icmp_ne (tgt := 75) dX12_fieldsOf_59 (by decide) (fun c18 => ?_) (fun c18 => ?_)
      · replace hq := hq.1 c18
        refine xP.pick (lv' := [(0, rv x0), (2, rv x2), (3, rv x3), (4, .int x4), (5, .int x5), (6, rv x15)]) [1, 2, 3, 4, 5, 0] rfl ?_
        exact uX12_fieldsOf_75 hq
      · replace hq := hq.2 c18
        refine x_aload_n 1 dX12_fieldsOf_62 rfl ?_
        refine x_bipush (v := 7) dX12_fieldsOf_63 (by decide) ?_
        refine x_aload_n 1 dX12_fieldsOf_65 rfl ?_
        have t19 : tg h14 x0 = 13 := e16.tg t11 (by decide)
        refine x_get (v := rv (fR h14 x0 3106)) fdX12_82 dX12_fieldsOf_66 t19 rfl ?_
        refine x_iload 5 dX12_fieldsOf_69 rfl ?_
        obtain ⟨g20, hq⟩ := hq
        obtain ⟨i21, hq⟩ := hq
        refine x_iald 0 (Or.inl rfl) g20 i21 dX12_fieldsOf_71 ?_
        obtain ⟨g22, g23, hq⟩ := hq
        refine x_callV (Yc := YX12_refuse) (as := [.int 7, .int (aI h14 (fR h14 x0 3106) (Int32.toNatClampNeg x5))]) (st := []) q4095 mvX12_refuse t19 rfl dX12_fieldsOf_72 (xle (xal1 (rv_cat _) (xal1 rfl (xal1 rfl xal0))) (by decide)) (xfr g22) (xlo xsw0 (by decide) g23) (xKv hq (fun h24 hq e26 => ?_) (fun _ _ q _ => q))
        replace hq := hq e26
        refine xP.pick (lv' := [(0, rv x0), (2, rv x2), (3, rv x3), (4, .int x4), (5, .int x5), (6, rv x15)]) [1, 2, 3, 4, 5, 0] rfl ?_
        exact uX12_fieldsOf_75 hq
    · replace hq := hq.2 c5
      refine x_aload_n 0 dX12_fieldsOf_26 rfl ?_
      refine x_iload 4 dX12_fieldsOf_27 rfl ?_
      refine x_aload_n 1 dX12_fieldsOf_29 rfl ?_
      refine x_aload_n 2 dX12_fieldsOf_30 rfl ?_
      refine x_iload 3 dX12_fieldsOf_31 rfl ?_
      obtain ⟨g27, g28, hq⟩ := hq
      refine x_callV (Yc := YX12_variantsOf) (as := [.int x5, rv x2, rv x3, .int x4]) (st := []) q4203 mvX12_variantsOf g2 rfl dX12_fieldsOf_33 (xle (xal1 (rv_cat _) (xal1 rfl (xal1 (rv_cat _) (xal1 (rv_cat _) (xal1 rfl xal0))))) (by decide)) (xfr g27) (xlo xsw0 (by decide) g28) (xKv hq (fun h29 hq e31 => ?_) (fun _ _ q _ => q))
      replace hq := hq e31
      refine x_goto (tgt := 125) dX12_fieldsOf_36 (by decide) ?_
      exact uX12_fieldsOf_125 hq
set_option maxRecDepth 100000 in
def bX12_fieldsOf (G : xG) (fr lo : Nat) (x0 : Nat) (x1 : Int32) (x2 : Nat) (x3 : Nat) (x4 : Int32) (h : xH) (Q : Outcome → xH → Prop) : Prop := tg h x0 = 13 ∧ tg h (fR h x0 3103) = 100 ∧ vp_in x1 (ln h (fR h x0 3103)) ∧ lX12_fieldsOf_8 G fr lo x0 x2 x3 x4 (aI h (fR h x0 3103) (Int32.toNatClampNeg x1)) h Q
set_option maxRecDepth 100000 in
theorem uX12_fieldsOf {G : xG} {fr lo : Nat} {x0 : Nat} {x1 : Int32} {x2 : Nat} {x3 : Nat} {x4 : Int32} {h : xH} {Q : Outcome → xH → Prop} (hq : bX12_fieldsOf G fr lo x0 x1 x2 x3 x4 h Q) : xP G YX12_fieldsOf fr lo 0 [(0, rv x0), (1, .int x1), (2, rv x2), (3, rv x3), (4, .int x4)] [] h Q := by
  unfold bX12_fieldsOf at hq
  refine x_aload_n 0 dX12_fieldsOf_0 rfl ?_
  obtain ⟨g1, hq⟩ := hq
  refine x_get (v := rv (fR h x0 3103)) fdX12_73 dX12_fieldsOf_1 g1 rfl ?_
  refine x_iload_n 1 dX12_fieldsOf_4 rfl ?_
  obtain ⟨g2, hq⟩ := hq
  obtain ⟨i3, hq⟩ := hq
  refine x_iald 0 (Or.inl rfl) g2 i3 dX12_fieldsOf_5 ?_
  refine x_istore (lv' := [(5, .int (aI h (fR h x0 3103) (Int32.toNatClampNeg x1))), (0, rv x0), (1, .int x1), (2, rv x2), (3, rv x3), (4, .int x4)]) dX12_fieldsOf_6 (by decide) rfl ?_
  refine xP.pick (lv' := [(0, rv x0), (2, rv x2), (3, rv x3), (4, .int x4), (5, .int (aI h (fR h x0 3103) (Int32.toNatClampNeg x1)))]) [1, 3, 4, 5, 0] rfl ?_
  exact hq
theorem rX12_fieldsOf {G : xG} {fr lo : Nat} {x0 : Nat} {x1 : Int32} {x2 : Nat} {x3 : Nat} {x4 : Int32} {h : xH} {Q : Outcome → xH → Prop} (hq : bX12_fieldsOf G fr lo x0 x1 x2 x3 x4 h Q) : xR G YX12_fieldsOf fr lo [rv x0, .int x1, rv x2, rv x3, .int x4] h Q := by
  show xP _ _ _ _ _ (lv_args 0 _) _ _ _
  rw [show lv_args 0 [rv x0, .int x1, rv x2, rv x3, .int x4] = [(0, rv x0), (1, .int x1), (2, rv x2), (3, rv x3), (4, .int x4)] from (xla1 (rv_cat _) (xla1 rfl (xla1 (rv_cat _) (xla1 (rv_cat _) (xla1 rfl xla0)))))]
  exact uX12_fieldsOf hq
set_option maxRecDepth 100000 in
theorem dX12_variantsOf_0 : decode cX12_variantsOf 0 = .ok (.iconst 0, 1) := by decide +kernel
set_option maxRecDepth 100000 in
theorem dX12_variantsOf_1 : decode cX12_variantsOf 1 = .ok (.istore 5, 2) := by decide +kernel
set_option maxRecDepth 100000 in
theorem dX12_variantsOf_3 : decode cX12_variantsOf 3 = .ok (.aload_n 0, 1) := by decide +kernel
set_option maxRecDepth 100000 in
theorem dX12_variantsOf_4 : decode cX12_variantsOf 4 = .ok (.getfield 79, 3) := by decide +kernel
set_option maxRecDepth 100000 in
theorem dX12_variantsOf_7 : decode cX12_variantsOf 7 = .ok (.aload_n 0, 1) := by decide +kernel
set_option maxRecDepth 100000 in
theorem dX12_variantsOf_8 : decode cX12_variantsOf 8 = .ok (.getfield 73, 3) := by decide +kernel
set_option maxRecDepth 100000 in
theorem dX12_variantsOf_11 : decode cX12_variantsOf 11 = .ok (.iload_n 1, 1) := by decide +kernel
set_option maxRecDepth 100000 in
theorem dX12_variantsOf_12 : decode cX12_variantsOf 12 = .ok (.iaload, 1) := by decide +kernel
set_option maxRecDepth 100000 in
theorem dX12_variantsOf_13 : decode cX12_variantsOf 13 = .ok (.iaload, 1) := by decide +kernel
set_option maxRecDepth 100000 in
theorem dX12_variantsOf_14 : decode cX12_variantsOf 14 = .ok (.istore 6, 2) := by decide +kernel
set_option maxRecDepth 100000 in
theorem dX12_variantsOf_16 : decode cX12_variantsOf 16 = .ok (.iload 6, 2) := by decide +kernel
set_option maxRecDepth 100000 in
theorem dX12_variantsOf_18 : decode cX12_variantsOf 18 = .ok (.iconst (-1), 1) := by decide +kernel
set_option maxRecDepth 100000 in
theorem dX12_variantsOf_19 : decode cX12_variantsOf 19 = .ok (.if_icmp .eq 50, 3) := by decide +kernel
set_option maxRecDepth 100000 in
theorem dX12_variantsOf_22 : decode cX12_variantsOf 22 = .ok (.aload_n 0, 1) := by decide +kernel
set_option maxRecDepth 100000 in
theorem dX12_variantsOf_23 : decode cX12_variantsOf 23 = .ok (.getfield 73, 3) := by decide +kernel
set_option maxRecDepth 100000 in
theorem dX12_variantsOf_26 : decode cX12_variantsOf 26 = .ok (.aload_n 0, 1) := by decide +kernel
set_option maxRecDepth 100000 in
theorem dX12_variantsOf_27 : decode cX12_variantsOf 27 = .ok (.getfield 73, 3) := by decide +kernel
set_option maxRecDepth 100000 in
theorem dX12_variantsOf_30 : decode cX12_variantsOf 30 = .ok (.iload 6, 2) := by decide +kernel
set_option maxRecDepth 100000 in
theorem dX12_variantsOf_32 : decode cX12_variantsOf 32 = .ok (.iaload, 1) := by decide +kernel
set_option maxRecDepth 100000 in
theorem dX12_variantsOf_33 : decode cX12_variantsOf 33 = .ok (.iaload, 1) := by decide +kernel
set_option maxRecDepth 100000 in
theorem dX12_variantsOf_34 : decode cX12_variantsOf 34 = .ok (.istore 7, 2) := by decide +kernel
set_option maxRecDepth 100000 in
theorem dX12_variantsOf_36 : decode cX12_variantsOf 36 = .ok (.iload 7, 2) := by decide +kernel
set_option maxRecDepth 100000 in
theorem dX12_variantsOf_38 : decode cX12_variantsOf 38 = .ok (.iconst (-1), 1) := by decide +kernel
set_option maxRecDepth 100000 in
theorem dX12_variantsOf_39 : decode cX12_variantsOf 39 = .ok (.if_icmp .eq 18, 3) := by decide +kernel
set_option maxRecDepth 100000 in
theorem dX12_variantsOf_42 : decode cX12_variantsOf 42 = .ok (.iinc 5 1, 3) := by decide +kernel
set_option maxRecDepth 100000 in
theorem dX12_variantsOf_45 : decode cX12_variantsOf 45 = .ok (.aload_n 0, 1) := by decide +kernel
set_option maxRecDepth 100000 in
theorem dX12_variantsOf_46 : decode cX12_variantsOf 46 = .ok (.getfield 79, 3) := by decide +kernel
set_option maxRecDepth 100000 in
theorem dX12_variantsOf_49 : decode cX12_variantsOf 49 = .ok (.iload 7, 2) := by decide +kernel
set_option maxRecDepth 100000 in
theorem dX12_variantsOf_51 : decode cX12_variantsOf 51 = .ok (.iaload, 1) := by decide +kernel
set_option maxRecDepth 100000 in
theorem dX12_variantsOf_52 : decode cX12_variantsOf 52 = .ok (.istore 7, 2) := by decide +kernel
set_option maxRecDepth 100000 in
theorem dX12_variantsOf_54 : decode cX12_variantsOf 54 = .ok (.goto (-18), 3) := by decide +kernel
set_option maxRecDepth 100000 in
theorem dX12_variantsOf_57 : decode cX12_variantsOf 57 = .ok (.aload_n 0, 1) := by decide +kernel
set_option maxRecDepth 100000 in
theorem dX12_variantsOf_58 : decode cX12_variantsOf 58 = .ok (.getfield 79, 3) := by decide +kernel
set_option maxRecDepth 100000 in
theorem dX12_variantsOf_61 : decode cX12_variantsOf 61 = .ok (.iload 6, 2) := by decide +kernel
set_option maxRecDepth 100000 in
theorem dX12_variantsOf_63 : decode cX12_variantsOf 63 = .ok (.iaload, 1) := by decide +kernel
set_option maxRecDepth 100000 in
theorem dX12_variantsOf_64 : decode cX12_variantsOf 64 = .ok (.istore 6, 2) := by decide +kernel
set_option maxRecDepth 100000 in
theorem dX12_variantsOf_66 : decode cX12_variantsOf 66 = .ok (.goto (-50), 3) := by decide +kernel
set_option maxRecDepth 100000 in
theorem dX12_variantsOf_69 : decode cX12_variantsOf 69 = .ok (.new 900, 3) := by decide +kernel
set_option maxRecDepth 100000 in
theorem dX12_variantsOf_72 : decode cX12_variantsOf 72 = .ok (.dup, 1) := by decide +kernel
set_option maxRecDepth 100000 in
theorem dX12_variantsOf_73 : decode cX12_variantsOf 73 = .ok (.aload_n 3, 1) := by decide +kernel
set_option maxRecDepth 100000 in
theorem dX12_variantsOf_74 : decode cX12_variantsOf 74 = .ok (.iload 4, 2) := by decide +kernel
set_option maxRecDepth 100000 in
theorem dX12_variantsOf_76 : decode cX12_variantsOf 76 = .ok (.iload 5, 2) := by decide +kernel
set_option maxRecDepth 100000 in
theorem dX12_variantsOf_78 : decode cX12_variantsOf 78 = .ok (.invokespecial 902, 3) := by decide +kernel
set_option maxRecDepth 100000 in
theorem dX12_variantsOf_81 : decode cX12_variantsOf 81 = .ok (.astore 6, 2) := by decide +kernel
set_option maxRecDepth 100000 in
theorem dX12_variantsOf_83 : decode cX12_variantsOf 83 = .ok (.aload_n 0, 1) := by decide +kernel
set_option maxRecDepth 100000 in
theorem dX12_variantsOf_84 : decode cX12_variantsOf 84 = .ok (.getfield 70, 3) := by decide +kernel
set_option maxRecDepth 100000 in
theorem dX12_variantsOf_87 : decode cX12_variantsOf 87 = .ok (.aload_n 0, 1) := by decide +kernel
set_option maxRecDepth 100000 in
theorem dX12_variantsOf_88 : decode cX12_variantsOf 88 = .ok (.getfield 73, 3) := by decide +kernel
set_option maxRecDepth 100000 in
theorem dX12_variantsOf_91 : decode cX12_variantsOf 91 = .ok (.iload_n 1, 1) := by decide +kernel
set_option maxRecDepth 100000 in
theorem dX12_variantsOf_92 : decode cX12_variantsOf 92 = .ok (.iaload, 1) := by decide +kernel
set_option maxRecDepth 100000 in
theorem dX12_variantsOf_93 : decode cX12_variantsOf 93 = .ok (.iaload, 1) := by decide +kernel
set_option maxRecDepth 100000 in
theorem dX12_variantsOf_94 : decode cX12_variantsOf 94 = .ok (.istore 7, 2) := by decide +kernel
set_option maxRecDepth 100000 in
theorem dX12_variantsOf_96 : decode cX12_variantsOf 96 = .ok (.aload_n 0, 1) := by decide +kernel
set_option maxRecDepth 100000 in
theorem dX12_variantsOf_97 : decode cX12_variantsOf 97 = .ok (.iload 7, 2) := by decide +kernel
set_option maxRecDepth 100000 in
theorem dX12_variantsOf_99 : decode cX12_variantsOf 99 = .ok (.iconst 2, 1) := by decide +kernel
set_option maxRecDepth 100000 in
theorem dX12_variantsOf_100 : decode cX12_variantsOf 100 = .ok (.invokevirtual 838, 3) := by decide +kernel
set_option maxRecDepth 100000 in
theorem dX12_variantsOf_103 : decode cX12_variantsOf 103 = .ok (.getfield 612, 3) := by decide +kernel
set_option maxRecDepth 100000 in
theorem dX12_variantsOf_106 : decode cX12_variantsOf 106 = .ok (.astore 8, 2) := by decide +kernel
set_option maxRecDepth 100000 in
theorem dX12_variantsOf_108 : decode cX12_variantsOf 108 = .ok (.aload 8, 2) := by decide +kernel
set_option maxRecDepth 100000 in
theorem dX12_variantsOf_110 : decode cX12_variantsOf 110 = .ok (.invokevirtual 861, 3) := by decide +kernel
set_option maxRecDepth 100000 in
theorem dX12_variantsOf_113 : decode cX12_variantsOf 113 = .ok (.ifCond .ne 11, 3) := by decide +kernel
set_option maxRecDepth 100000 in
theorem dX12_variantsOf_116 : decode cX12_variantsOf 116 = .ok (.aload_n 0, 1) := by decide +kernel
set_option maxRecDepth 100000 in
theorem dX12_variantsOf_117 : decode cX12_variantsOf 117 = .ok (.bipush 7, 2) := by decide +kernel
set_option maxRecDepth 100000 in
theorem dX12_variantsOf_119 : decode cX12_variantsOf 119 = .ok (.iload 7, 2) := by decide +kernel
set_option maxRecDepth 100000 in
theorem dX12_variantsOf_121 : decode cX12_variantsOf 121 = .ok (.invokevirtual 570, 3) := by decide +kernel
set_option maxRecDepth 100000 in
theorem dX12_variantsOf_124 : decode cX12_variantsOf 124 = .ok (.aload 6, 2) := by decide +kernel
set_option maxRecDepth 100000 in
theorem dX12_variantsOf_126 : decode cX12_variantsOf 126 = .ok (.aload_n 2, 1) := by decide +kernel
set_option maxRecDepth 100000 in
theorem dX12_variantsOf_127 : decode cX12_variantsOf 127 = .ok (.getfield 603, 3) := by decide +kernel
set_option maxRecDepth 100000 in
theorem dX12_variantsOf_130 : decode cX12_variantsOf 130 = .ok (.ldc2_w 885, 3) := by decide +kernel
set_option maxRecDepth 100000 in
theorem dX12_variantsOf_133 : decode cX12_variantsOf 133 = .ok (.invokestatic 887, 3) := by decide +kernel
set_option maxRecDepth 100000 in
theorem dX12_variantsOf_136 : decode cX12_variantsOf 136 = .ok (.l2i, 1) := by decide +kernel
set_option maxRecDepth 100000 in
theorem dX12_variantsOf_137 : decode cX12_variantsOf 137 = .ok (.putfield 905, 3) := by decide +kernel
set_option maxRecDepth 100000 in
theorem dX12_variantsOf_140 : decode cX12_variantsOf 140 = .ok (.aload_n 0, 1) := by decide +kernel
set_option maxRecDepth 100000 in
theorem dX12_variantsOf_141 : decode cX12_variantsOf 141 = .ok (.getfield 82, 3) := by decide +kernel
set_option maxRecDepth 100000 in
theorem dX12_variantsOf_144 : decode cX12_variantsOf 144 = .ok (.iload_n 1, 1) := by decide +kernel
set_option maxRecDepth 100000 in
theorem dX12_variantsOf_145 : decode cX12_variantsOf 145 = .ok (.iaload, 1) := by decide +kernel
set_option maxRecDepth 100000 in
theorem dX12_variantsOf_146 : decode cX12_variantsOf 146 = .ok (.iconst (-1), 1) := by decide +kernel
set_option maxRecDepth 100000 in
theorem dX12_variantsOf_147 : decode cX12_variantsOf 147 = .ok (.if_icmp .eq 33, 3) := by decide +kernel
set_option maxRecDepth 100000 in
theorem dX12_variantsOf_150 : decode cX12_variantsOf 150 = .ok (.aload 6, 2) := by decide +kernel
set_option maxRecDepth 100000 in
theorem dX12_variantsOf_152 : decode cX12_variantsOf 152 = .ok (.iconst 1, 1) := by decide +kernel
set_option maxRecDepth 100000 in
theorem dX12_variantsOf_153 : decode cX12_variantsOf 153 = .ok (.putfield 908, 3) := by decide +kernel
set_option maxRecDepth 100000 in
theorem dX12_variantsOf_156 : decode cX12_variantsOf 156 = .ok (.aload_n 0, 1) := by decide +kernel
set_option maxRecDepth 100000 in
theorem dX12_variantsOf_157 : decode cX12_variantsOf 157 = .ok (.aload_n 0, 1) := by decide +kernel
set_option maxRecDepth 100000 in
theorem dX12_variantsOf_158 : decode cX12_variantsOf 158 = .ok (.getfield 82, 3) := by decide +kernel
set_option maxRecDepth 100000 in
theorem dX12_variantsOf_161 : decode cX12_variantsOf 161 = .ok (.iload_n 1, 1) := by decide +kernel
set_option maxRecDepth 100000 in
theorem dX12_variantsOf_162 : decode cX12_variantsOf 162 = .ok (.iaload, 1) := by decide +kernel
set_option maxRecDepth 100000 in
theorem dX12_variantsOf_163 : decode cX12_variantsOf 163 = .ok (.aload 8, 2) := by decide +kernel
set_option maxRecDepth 100000 in
theorem dX12_variantsOf_165 : decode cX12_variantsOf 165 = .ok (.aload_n 2, 1) := by decide +kernel
set_option maxRecDepth 100000 in
theorem dX12_variantsOf_166 : decode cX12_variantsOf 166 = .ok (.aload_n 3, 1) := by decide +kernel
set_option maxRecDepth 100000 in
theorem dX12_variantsOf_167 : decode cX12_variantsOf 167 = .ok (.iload 4, 2) := by decide +kernel
set_option maxRecDepth 100000 in
theorem dX12_variantsOf_169 : decode cX12_variantsOf 169 = .ok (.invokevirtual 881, 3) := by decide +kernel
set_option maxRecDepth 100000 in
theorem dX12_variantsOf_172 : decode cX12_variantsOf 172 = .ok (.aload 6, 2) := by decide +kernel
set_option maxRecDepth 100000 in
theorem dX12_variantsOf_174 : decode cX12_variantsOf 174 = .ok (.putfield 911, 3) := by decide +kernel
set_option maxRecDepth 100000 in
theorem dX12_variantsOf_177 : decode cX12_variantsOf 177 = .ok (.goto 13, 3) := by decide +kernel
set_option maxRecDepth 100000 in
theorem dX12_variantsOf_180 : decode cX12_variantsOf 180 = .ok (.aload_n 2, 1) := by decide +kernel
set_option maxRecDepth 100000 in
theorem dX12_variantsOf_181 : decode cX12_variantsOf 181 = .ok (.dup, 1) := by decide +kernel
set_option maxRecDepth 100000 in
theorem dX12_variantsOf_182 : decode cX12_variantsOf 182 = .ok (.getfield 603, 3) := by decide +kernel
set_option maxRecDepth 100000 in
theorem dX12_variantsOf_185 : decode cX12_variantsOf 185 = .ok (.lconst 1, 1) := by decide +kernel
set_option maxRecDepth 100000 in
theorem dX12_variantsOf_186 : decode cX12_variantsOf 186 = .ok (.ladd, 1) := by decide +kernel
set_option maxRecDepth 100000 in
theorem dX12_variantsOf_187 : decode cX12_variantsOf 187 = .ok (.putfield 603, 3) := by decide +kernel
set_option maxRecDepth 100000 in
theorem dX12_variantsOf_190 : decode cX12_variantsOf 190 = .ok (.aload 6, 2) := by decide +kernel
set_option maxRecDepth 100000 in
theorem dX12_variantsOf_192 : decode cX12_variantsOf 192 = .ok (.aload_n 2, 1) := by decide +kernel
set_option maxRecDepth 100000 in
theorem dX12_variantsOf_193 : decode cX12_variantsOf 193 = .ok (.getfield 603, 3) := by decide +kernel
set_option maxRecDepth 100000 in
theorem dX12_variantsOf_196 : decode cX12_variantsOf 196 = .ok (.ldc2_w 885, 3) := by decide +kernel
set_option maxRecDepth 100000 in
theorem dX12_variantsOf_199 : decode cX12_variantsOf 199 = .ok (.invokestatic 887, 3) := by decide +kernel
set_option maxRecDepth 100000 in
theorem dX12_variantsOf_202 : decode cX12_variantsOf 202 = .ok (.l2i, 1) := by decide +kernel
set_option maxRecDepth 100000 in
theorem dX12_variantsOf_203 : decode cX12_variantsOf 203 = .ok (.putfield 914, 3) := by decide +kernel
set_option maxRecDepth 100000 in
theorem dX12_variantsOf_206 : decode cX12_variantsOf 206 = .ok (.iconst 0, 1) := by decide +kernel
set_option maxRecDepth 100000 in
theorem dX12_variantsOf_207 : decode cX12_variantsOf 207 = .ok (.istore 9, 2) := by decide +kernel
set_option maxRecDepth 100000 in
theorem dX12_variantsOf_209 : decode cX12_variantsOf 209 = .ok (.aload_n 0, 1) := by decide +kernel
set_option maxRecDepth 100000 in
theorem dX12_variantsOf_210 : decode cX12_variantsOf 210 = .ok (.getfield 79, 3) := by decide +kernel
set_option maxRecDepth 100000 in
theorem dX12_variantsOf_213 : decode cX12_variantsOf 213 = .ok (.aload_n 0, 1) := by decide +kernel
set_option maxRecDepth 100000 in
theorem dX12_variantsOf_214 : decode cX12_variantsOf 214 = .ok (.getfield 73, 3) := by decide +kernel
set_option maxRecDepth 100000 in
theorem dX12_variantsOf_217 : decode cX12_variantsOf 217 = .ok (.iload_n 1, 1) := by decide +kernel
set_option maxRecDepth 100000 in
theorem dX12_variantsOf_218 : decode cX12_variantsOf 218 = .ok (.iaload, 1) := by decide +kernel
set_option maxRecDepth 100000 in
theorem dX12_variantsOf_219 : decode cX12_variantsOf 219 = .ok (.iaload, 1) := by decide +kernel
set_option maxRecDepth 100000 in
theorem dX12_variantsOf_220 : decode cX12_variantsOf 220 = .ok (.istore 10, 2) := by decide +kernel
set_option maxRecDepth 100000 in
theorem dX12_variantsOf_222 : decode cX12_variantsOf 222 = .ok (.iload 10, 2) := by decide +kernel
set_option maxRecDepth 100000 in
theorem dX12_variantsOf_224 : decode cX12_variantsOf 224 = .ok (.iconst (-1), 1) := by decide +kernel
set_option maxRecDepth 100000 in
theorem dX12_variantsOf_225 : decode cX12_variantsOf 225 = .ok (.if_icmp .eq 148, 3) := by decide +kernel
set_option maxRecDepth 100000 in
theorem dX12_variantsOf_228 : decode cX12_variantsOf 228 = .ok (.aload_n 0, 1) := by decide +kernel
set_option maxRecDepth 100000 in
theorem dX12_variantsOf_229 : decode cX12_variantsOf 229 = .ok (.getfield 73, 3) := by decide +kernel
set_option maxRecDepth 100000 in
theorem dX12_variantsOf_232 : decode cX12_variantsOf 232 = .ok (.aload_n 0, 1) := by decide +kernel
set_option maxRecDepth 100000 in
theorem dX12_variantsOf_233 : decode cX12_variantsOf 233 = .ok (.getfield 73, 3) := by decide +kernel
set_option maxRecDepth 100000 in
theorem dX12_variantsOf_236 : decode cX12_variantsOf 236 = .ok (.iload 10, 2) := by decide +kernel
set_option maxRecDepth 100000 in
theorem dX12_variantsOf_238 : decode cX12_variantsOf 238 = .ok (.iaload, 1) := by decide +kernel
set_option maxRecDepth 100000 in
theorem dX12_variantsOf_239 : decode cX12_variantsOf 239 = .ok (.iaload, 1) := by decide +kernel
set_option maxRecDepth 100000 in
theorem dX12_variantsOf_240 : decode cX12_variantsOf 240 = .ok (.istore 11, 2) := by decide +kernel
set_option maxRecDepth 100000 in
theorem dX12_variantsOf_242 : decode cX12_variantsOf 242 = .ok (.iload 11, 2) := by decide +kernel
set_option maxRecDepth 100000 in
theorem dX12_variantsOf_244 : decode cX12_variantsOf 244 = .ok (.iconst (-1), 1) := by decide +kernel
set_option maxRecDepth 100000 in
theorem dX12_variantsOf_245 : decode cX12_variantsOf 245 = .ok (.if_icmp .eq 97, 3) := by decide +kernel
set_option maxRecDepth 100000 in
theorem dX12_variantsOf_248 : decode cX12_variantsOf 248 = .ok (.aload_n 0, 1) := by decide +kernel
set_option maxRecDepth 100000 in
theorem dX12_variantsOf_249 : decode cX12_variantsOf 249 = .ok (.iload 11, 2) := by decide +kernel
set_option maxRecDepth 100000 in
theorem dX12_variantsOf_251 : decode cX12_variantsOf 251 = .ok (.invokevirtual 754, 3) := by decide +kernel
set_option maxRecDepth 100000 in
theorem dX12_variantsOf_254 : decode cX12_variantsOf 254 = .ok (.aload_n 0, 1) := by decide +kernel
set_option maxRecDepth 100000 in
theorem dX12_variantsOf_255 : decode cX12_variantsOf 255 = .ok (.getfield 757, 3) := by decide +kernel
set_option maxRecDepth 100000 in
theorem dX12_variantsOf_258 : decode cX12_variantsOf 258 = .ok (.invokevirtual 861, 3) := by decide +kernel
set_option maxRecDepth 100000 in
theorem dX12_variantsOf_261 : decode cX12_variantsOf 261 = .ok (.ifCond .eq 18, 3) := by decide +kernel
set_option maxRecDepth 100000 in
theorem dX12_variantsOf_264 : decode cX12_variantsOf 264 = .ok (.aload_n 0, 1) := by decide +kernel
set_option maxRecDepth 100000 in
theorem dX12_variantsOf_265 : decode cX12_variantsOf 265 = .ok (.getfield 757, 3) := by decide +kernel
set_option maxRecDepth 100000 in
theorem dX12_variantsOf_268 : decode cX12_variantsOf 268 = .ok (.invokevirtual 867, 3) := by decide +kernel
set_option maxRecDepth 100000 in
theorem dX12_variantsOf_271 : decode cX12_variantsOf 271 = .ok (.aload 8, 2) := by decide +kernel
set_option maxRecDepth 100000 in
theorem dX12_variantsOf_273 : decode cX12_variantsOf 273 = .ok (.invokevirtual 867, 3) := by decide +kernel
set_option maxRecDepth 100000 in
theorem dX12_variantsOf_276 : decode cX12_variantsOf 276 = .ok (.if_acmp .eq 16, 3) := by decide +kernel
set_option maxRecDepth 100000 in
theorem dX12_variantsOf_279 : decode cX12_variantsOf 279 = .ok (.aload_n 0, 1) := by decide +kernel
set_option maxRecDepth 100000 in
theorem dX12_variantsOf_280 : decode cX12_variantsOf 280 = .ok (.bipush 7, 2) := by decide +kernel
set_option maxRecDepth 100000 in
theorem dX12_variantsOf_282 : decode cX12_variantsOf 282 = .ok (.aload_n 0, 1) := by decide +kernel
set_option maxRecDepth 100000 in
theorem dX12_variantsOf_283 : decode cX12_variantsOf 283 = .ok (.getfield 70, 3) := by decide +kernel
set_option maxRecDepth 100000 in
theorem dX12_variantsOf_286 : decode cX12_variantsOf 286 = .ok (.iload 11, 2) := by decide +kernel
set_option maxRecDepth 100000 in
theorem dX12_variantsOf_288 : decode cX12_variantsOf 288 = .ok (.iaload, 1) := by decide +kernel
set_option maxRecDepth 100000 in
theorem dX12_variantsOf_289 : decode cX12_variantsOf 289 = .ok (.invokevirtual 570, 3) := by decide +kernel
set_option maxRecDepth 100000 in
theorem dX12_variantsOf_292 : decode cX12_variantsOf 292 = .ok (.aload 6, 2) := by decide +kernel
set_option maxRecDepth 100000 in
theorem dX12_variantsOf_294 : decode cX12_variantsOf 294 = .ok (.aload_n 0, 1) := by decide +kernel
set_option maxRecDepth 100000 in
theorem dX12_variantsOf_295 : decode cX12_variantsOf 295 = .ok (.getfield 760, 3) := by decide +kernel
set_option maxRecDepth 100000 in
theorem dX12_variantsOf_298 : decode cX12_variantsOf 298 = .ok (.l2i, 1) := by decide +kernel
set_option maxRecDepth 100000 in
theorem dX12_variantsOf_299 : decode cX12_variantsOf 299 = .ok (.invokevirtual 917, 3) := by decide +kernel
set_option maxRecDepth 100000 in
theorem dX12_variantsOf_302 : decode cX12_variantsOf 302 = .ok (.iconst (-1), 1) := by decide +kernel
set_option maxRecDepth 100000 in
theorem dX12_variantsOf_303 : decode cX12_variantsOf 303 = .ok (.if_icmp .eq 15, 3) := by decide +kernel
set_option maxRecDepth 100000 in
theorem dX12_variantsOf_306 : decode cX12_variantsOf 306 = .ok (.aload_n 0, 1) := by decide +kernel
set_option maxRecDepth 100000 in
theorem dX12_variantsOf_307 : decode cX12_variantsOf 307 = .ok (.iconst 5, 1) := by decide +kernel
set_option maxRecDepth 100000 in
theorem dX12_variantsOf_308 : decode cX12_variantsOf 308 = .ok (.aload_n 0, 1) := by decide +kernel
set_option maxRecDepth 100000 in
theorem dX12_variantsOf_309 : decode cX12_variantsOf 309 = .ok (.getfield 70, 3) := by decide +kernel
set_option maxRecDepth 100000 in
theorem dX12_variantsOf_312 : decode cX12_variantsOf 312 = .ok (.iload 11, 2) := by decide +kernel
set_option maxRecDepth 100000 in
theorem dX12_variantsOf_314 : decode cX12_variantsOf 314 = .ok (.iaload, 1) := by decide +kernel
set_option maxRecDepth 100000 in
theorem dX12_variantsOf_315 : decode cX12_variantsOf 315 = .ok (.invokevirtual 570, 3) := by decide +kernel
set_option maxRecDepth 100000 in
theorem dX12_variantsOf_318 : decode cX12_variantsOf 318 = .ok (.aload 6, 2) := by decide +kernel
set_option maxRecDepth 100000 in
theorem dX12_variantsOf_320 : decode cX12_variantsOf 320 = .ok (.aload_n 0, 1) := by decide +kernel
set_option maxRecDepth 100000 in
theorem dX12_variantsOf_321 : decode cX12_variantsOf 321 = .ok (.getfield 760, 3) := by decide +kernel
set_option maxRecDepth 100000 in
theorem dX12_variantsOf_324 : decode cX12_variantsOf 324 = .ok (.l2i, 1) := by decide +kernel
set_option maxRecDepth 100000 in
theorem dX12_variantsOf_325 : decode cX12_variantsOf 325 = .ok (.iload 9, 2) := by decide +kernel
set_option maxRecDepth 100000 in
theorem dX12_variantsOf_327 : decode cX12_variantsOf 327 = .ok (.invokevirtual 920, 3) := by decide +kernel
set_option maxRecDepth 100000 in
theorem dX12_variantsOf_330 : decode cX12_variantsOf 330 = .ok (.aload_n 0, 1) := by decide +kernel
set_option maxRecDepth 100000 in
theorem dX12_variantsOf_331 : decode cX12_variantsOf 331 = .ok (.getfield 79, 3) := by decide +kernel
set_option maxRecDepth 100000 in
theorem dX12_variantsOf_334 : decode cX12_variantsOf 334 = .ok (.iload 11, 2) := by decide +kernel
set_option maxRecDepth 100000 in
theorem dX12_variantsOf_336 : decode cX12_variantsOf 336 = .ok (.iaload, 1) := by decide +kernel
set_option maxRecDepth 100000 in
theorem dX12_variantsOf_337 : decode cX12_variantsOf 337 = .ok (.istore 11, 2) := by decide +kernel
set_option maxRecDepth 100000 in
theorem dX12_variantsOf_339 : decode cX12_variantsOf 339 = .ok (.goto (-97), 3) := by decide +kernel
set_option maxRecDepth 100000 in
theorem dX12_variantsOf_342 : decode cX12_variantsOf 342 = .ok (.aload_n 0, 1) := by decide +kernel
set_option maxRecDepth 100000 in
theorem dX12_variantsOf_343 : decode cX12_variantsOf 343 = .ok (.aload_n 0, 1) := by decide +kernel
set_option maxRecDepth 100000 in
theorem dX12_variantsOf_344 : decode cX12_variantsOf 344 = .ok (.iload 10, 2) := by decide +kernel
set_option maxRecDepth 100000 in
theorem dX12_variantsOf_346 : decode cX12_variantsOf 346 = .ok (.iconst 1, 1) := by decide +kernel
set_option maxRecDepth 100000 in
theorem dX12_variantsOf_347 : decode cX12_variantsOf 347 = .ok (.invokevirtual 734, 3) := by decide +kernel
set_option maxRecDepth 100000 in
theorem dX12_variantsOf_350 : decode cX12_variantsOf 350 = .ok (.aload_n 2, 1) := by decide +kernel
set_option maxRecDepth 100000 in
theorem dX12_variantsOf_351 : decode cX12_variantsOf 351 = .ok (.aload 6, 2) := by decide +kernel
set_option maxRecDepth 100000 in
theorem dX12_variantsOf_353 : decode cX12_variantsOf 353 = .ok (.iload 9, 2) := by decide +kernel
set_option maxRecDepth 100000 in
theorem dX12_variantsOf_355 : decode cX12_variantsOf 355 = .ok (.invokevirtual 855, 3) := by decide +kernel
set_option maxRecDepth 100000 in
theorem dX12_variantsOf_358 : decode cX12_variantsOf 358 = .ok (.iinc 9 1, 3) := by decide +kernel
set_option maxRecDepth 100000 in
theorem dX12_variantsOf_361 : decode cX12_variantsOf 361 = .ok (.aload_n 0, 1) := by decide +kernel
set_option maxRecDepth 100000 in
theorem dX12_variantsOf_362 : decode cX12_variantsOf 362 = .ok (.getfield 79, 3) := by decide +kernel
set_option maxRecDepth 100000 in
theorem dX12_variantsOf_365 : decode cX12_variantsOf 365 = .ok (.iload 10, 2) := by decide +kernel
set_option maxRecDepth 100000 in
theorem dX12_variantsOf_367 : decode cX12_variantsOf 367 = .ok (.iaload, 1) := by decide +kernel
set_option maxRecDepth 100000 in
theorem dX12_variantsOf_368 : decode cX12_variantsOf 368 = .ok (.istore 10, 2) := by decide +kernel
set_option maxRecDepth 100000 in
theorem dX12_variantsOf_370 : decode cX12_variantsOf 370 = .ok (.goto (-148), 3) := by decide +kernel
set_option maxRecDepth 100000 in
theorem dX12_variantsOf_373 : decode cX12_variantsOf 373 = .ok (.aload 6, 2) := by decide +kernel
set_option maxRecDepth 100000 in
theorem dX12_variantsOf_375 : decode cX12_variantsOf 375 = .ok (.aload_n 2, 1) := by decide +kernel
set_option maxRecDepth 100000 in
theorem dX12_variantsOf_376 : decode cX12_variantsOf 376 = .ok (.getfield 603, 3) := by decide +kernel
set_option maxRecDepth 100000 in
theorem dX12_variantsOf_379 : decode cX12_variantsOf 379 = .ok (.ldc2_w 885, 3) := by decide +kernel
set_option maxRecDepth 100000 in
theorem dX12_variantsOf_382 : decode cX12_variantsOf 382 = .ok (.invokestatic 887, 3) := by decide +kernel
set_option maxRecDepth 100000 in
theorem dX12_variantsOf_385 : decode cX12_variantsOf 385 = .ok (.l2i, 1) := by decide +kernel
set_option maxRecDepth 100000 in
theorem dX12_variantsOf_386 : decode cX12_variantsOf 386 = .ok (.putfield 921, 3) := by decide +kernel
set_option maxRecDepth 100000 in
theorem dX12_variantsOf_389 : decode cX12_variantsOf 389 = .ok (.return_, 1) := by decide +kernel
def lX12_variantsOf_16 (G : xG) (fr lo : Nat) (x0 : Nat) (x1 : Int32) (x2 : Nat) (x3 : Nat) (x4 : Int32) (x5 : Int32) (x6 : Int32) (h : xH) (Q : Outcome → xH → Prop) : Prop := xP G YX12_variantsOf fr lo 16 [(0, rv x0), (1, .int x1), (2, rv x2), (3, rv x3), (4, .int x4), (5, .int x5), (6, .int x6)] [] h Q
def lX12_variantsOf_36 (G : xG) (fr lo : Nat) (x0 : Nat) (x1 : Int32) (x2 : Nat) (x3 : Nat) (x4 : Int32) (x5 : Int32) (x6 : Int32) (x7 : Int32) (h : xH) (Q : Outcome → xH → Prop) : Prop := xP G YX12_variantsOf fr lo 36 [(0, rv x0), (1, .int x1), (2, rv x2), (3, rv x3), (4, .int x4), (5, .int x5), (6, .int x6), (7, .int x7)] [] h Q
def lX12_variantsOf_222 (G : xG) (fr lo : Nat) (x0 : Nat) (x2 : Nat) (x6 : Nat) (x8 : Nat) (x9 : Int32) (x10 : Int32) (h : xH) (Q : Outcome → xH → Prop) : Prop := xP G YX12_variantsOf fr lo 222 [(0, rv x0), (2, rv x2), (6, rv x6), (8, rv x8), (9, .int x9), (10, .int x10)] [] h Q
def lX12_variantsOf_242 (G : xG) (fr lo : Nat) (x0 : Nat) (x2 : Nat) (x6 : Nat) (x8 : Nat) (x9 : Int32) (x10 : Int32) (x11 : Int32) (h : xH) (Q : Outcome → xH → Prop) : Prop := xP G YX12_variantsOf fr lo 242 [(0, rv x0), (2, rv x2), (6, rv x6), (8, rv x8), (9, .int x9), (10, .int x10), (11, .int x11)] [] h Q
set_option maxRecDepth 100000 in
def bX12_variantsOf_318 (G : xG) (fr lo : Nat) (x0 : Nat) (x2 : Nat) (x6 : Nat) (x8 : Nat) (x9 : Int32) (x10 : Int32) (x11 : Int32) (h : xH) (Q : Outcome → xH → Prop) : Prop := tg h x0 = 13 ∧ tg h x6 = 27 ∧ 1 ≤ fr ∧ 16 ≤ lo ∧ xRv G YX26_add (fr - 1) (lo - 16) [rv x6, .int (Int64.toInt32 (fJ h x0 3139)), .int x9] h (fun h5 => xext h h5 → tg h5 (fR h5 x0 3105) = 100 ∧ vp_in x11 (ln h5 (fR h5 x0 3105)) ∧ lX12_variantsOf_242 G fr lo x0 x2 x6 x8 x9 x10 (aI h5 (fR h5 x0 3105) (Int32.toNatClampNeg x11)) h5 Q) (fun r h2 => Q (.threw r) h2)
set_option maxRecDepth 100000 in
theorem uX12_variantsOf_318 {G : xG} {fr lo : Nat} {x0 : Nat} {x2 : Nat} {x6 : Nat} {x8 : Nat} {x9 : Int32} {x10 : Int32} {x11 : Int32} {h : xH} {Q : Outcome → xH → Prop} (hq : bX12_variantsOf_318 G fr lo x0 x2 x6 x8 x9 x10 x11 h Q) : xP G YX12_variantsOf fr lo 318 [(0, rv x0), (2, rv x2), (6, rv x6), (8, rv x8), (9, .int x9), (10, .int x10), (11, .int x11)] [] h Q := by
  unfold bX12_variantsOf_318 at hq
  refine x_aload 2 dX12_variantsOf_318 rfl ?_
  refine x_aload_n 0 dX12_variantsOf_320 rfl ?_
  obtain ⟨g1, hq⟩ := hq
  refine x_get (v := .long (fJ h x0 3139)) fdX12_760 dX12_variantsOf_321 g1 rfl ?_
  refine x_l2i dX12_variantsOf_324 ?_
  refine x_iload 4 dX12_variantsOf_325 rfl ?_
  obtain ⟨g2, hq⟩ := hq
  obtain ⟨g3, g4, hq⟩ := hq
  refine x_callV (Yc := YX26_add) (as := [.int (Int64.toInt32 (fJ h x0 3139)), .int x9]) (st := []) q4259 mvX26_add g2 rfl dX12_variantsOf_327 (xle (xal1 (rv_cat _) (xal1 rfl (xal1 rfl xal0))) (by decide)) (xfr g3) (xlo xsw0 (by decide) g4) (xKv hq (fun h5 hq e7 => ?_) (fun _ _ q _ => q))
  replace hq := hq e7
  refine x_aload_n 0 dX12_variantsOf_330 rfl ?_
  have t8 : tg h5 x0 = 13 := e7.tg g1 (by decide)
  refine x_get (v := rv (fR h5 x0 3105)) fdX12_79 dX12_variantsOf_331 t8 rfl ?_
  refine x_iload 6 dX12_variantsOf_334 rfl ?_
  obtain ⟨g9, hq⟩ := hq
  obtain ⟨i10, hq⟩ := hq
  refine x_iald 0 (Or.inl rfl) g9 i10 dX12_variantsOf_336 ?_
  refine x_istore (lv' := [(11, .int (aI h5 (fR h5 x0 3105) (Int32.toNatClampNeg x11))), (0, rv x0), (2, rv x2), (6, rv x6), (8, rv x8), (9, .int x9), (10, .int x10)]) dX12_variantsOf_337 (by decide) rfl ?_
  refine x_goto (tgt := 242) dX12_variantsOf_339 (by decide) ?_
  refine xP.pick (lv' := [(0, rv x0), (2, rv x2), (6, rv x6), (8, rv x8), (9, .int x9), (10, .int x10), (11, .int (aI h5 (fR h5 x0 3105) (Int32.toNatClampNeg x11)))]) [1, 2, 3, 4, 5, 6, 0] rfl ?_
  exact hq
set_option maxRecDepth 100000 in
def bX12_variantsOf_292 (G : xG) (fr lo : Nat) (x0 : Nat) (x2 : Nat) (x6 : Nat) (x8 : Nat) (x9 : Int32) (x10 : Int32) (x11 : Int32) (h : xH) (Q : Outcome → xH → Prop) : Prop := tg h x0 = 13 ∧ tg h x6 = 27 ∧ 1 ≤ fr ∧ 14 ≤ lo ∧ xRi G YX26_choiceOf (fr - 1) (lo - 14) [rv x6, .int (Int64.toInt32 (fJ h x0 3139))] h (fun x6 h5 => xext h h5 → ((x6 = (-1) → bX12_variantsOf_318 G fr lo x0 x2 x6 x8 x9 x10 x11 h5 Q) ∧ (¬ x6 = (-1) → tg h5 (fR h5 x0 3102) = 100 ∧ vp_in x11 (ln h5 (fR h5 x0 3102)) ∧ 1 ≤ fr ∧ 14 ≤ lo ∧ xRv G YX12_refuse (fr - 1) (lo - 14) [rv x0, .int 5, .int (aI h5 (fR h5 x0 3102) (Int32.toNatClampNeg x11))] h5 (fun h14 => xext h5 h14 → bX12_variantsOf_318 G fr lo x0 x2 x6 x8 x9 x10 x11 h14 Q) (fun r h2 => Q (.threw r) h2)))) (fun r h2 => Q (.threw r) h2)
set_option maxRecDepth 100000 in
theorem uX12_variantsOf_292 {G : xG} {fr lo : Nat} {x0 : Nat} {x2 : Nat} {x6 : Nat} {x8 : Nat} {x9 : Int32} {x10 : Int32} {x11 : Int32} {h : xH} {Q : Outcome → xH → Prop} (hq : bX12_variantsOf_292 G fr lo x0 x2 x6 x8 x9 x10 x11 h Q) : xP G YX12_variantsOf fr lo 292 [(0, rv x0), (2, rv x2), (6, rv x6), (8, rv x8), (9, .int x9), (10, .int x10), (11, .int x11)] [] h Q := by
  unfold bX12_variantsOf_292 at hq
  refine x_aload 2 dX12_variantsOf_292 rfl ?_
  refine x_aload_n 0 dX12_variantsOf_294 rfl ?_
  obtain ⟨g1, hq⟩ := hq
  refine x_get (v := .long (fJ h x0 3139)) fdX12_760 dX12_variantsOf_295 g1 rfl ?_
  refine x_l2i dX12_variantsOf_298 ?_
  obtain ⟨g2, hq⟩ := hq
  obtain ⟨g3, g4, hq⟩ := hq
  refine x_callV (Yc := YX26_choiceOf) (as := [.int (Int64.toInt32 (fJ h x0 3139))]) (st := []) q4251 mvX26_choiceOf g2 rfl dX12_variantsOf_299 (xle (xal1 (rv_cat _) (xal1 rfl xal0)) (by decide)) (xfr g3) (xlo xsw0 (by decide) g4) (xKi hq (fun x6 h5 hq e7 => ?_) (fun _ _ q _ => q))
  replace hq := hq e7
  refine x_iconst (v := (-1)) dX12_variantsOf_302 (by decide) ?_
  refine x_icmp_eq (tgt := 318) dX12_variantsOf_303 (by decide) (fun c8 => ?_) (fun c8 => ?_)
  · replace hq := hq.1 c8
    exact uX12_variantsOf_318 hq
  · replace hq := hq.2 c8
    refine x_aload_n 0 dX12_variantsOf_306 rfl ?_
    refine x_iconst (v := 5) dX12_variantsOf_307 (by decide) ?_
    refine x_aload_n 0 dX12_variantsOf_308 rfl ?_
    have t9 : tg h5 x0 = 13 := e7.tg g1 (by decide)
    refine x_get (v := rv (fR h5 x0 3102)) fdX12_70 dX12_variantsOf_309 t9 rfl ?_
    refine x_iload 6 dX12_variantsOf_312 rfl ?_
    obtain ⟨g10, hq⟩ := hq
    obtain ⟨i11, hq⟩ := hq
    refine x_iald 0 (Or.inl rfl) g10 i11 dX12_variantsOf_314 ?_
    obtain ⟨g12, g13, hq⟩ := hq
    refine x_callV (Yc := YX12_refuse) (as := [.int 5, .int (aI h5 (fR h5 x0 3102) (Int32.toNatClampNeg x11))]) (st := []) q4095 mvX12_refuse t9 rfl dX12_variantsOf_315 (xle (xal1 (rv_cat _) (xal1 rfl (xal1 rfl xal0))) (by decide)) (xfr g12) (xlo xsw0 (by decide) g13) (xKv hq (fun h14 hq e16 => ?_) (fun _ _ q _ => q))
    replace hq := hq e16
    exact uX12_variantsOf_318 hq
set_option maxRecDepth 100000 in
def bX12_variantsOf_279 (G : xG) (fr lo : Nat) (x0 : Nat) (x2 : Nat) (x6 : Nat) (x8 : Nat) (x9 : Int32) (x10 : Int32) (x11 : Int32) (h : xH) (Q : Outcome → xH → Prop) : Prop := tg h x0 = 13 ∧ tg h (fR h x0 3102) = 100 ∧ vp_in x11 (ln h (fR h x0 3102)) ∧ 1 ≤ fr ∧ 14 ≤ lo ∧ xRv G YX12_refuse (fr - 1) (lo - 14) [rv x0, .int 7, .int (aI h (fR h x0 3102) (Int32.toNatClampNeg x11))] h (fun h6 => xext h h6 → bX12_variantsOf_292 G fr lo x0 x2 x6 x8 x9 x10 x11 h6 Q) (fun r h2 => Q (.threw r) h2)
set_option maxRecDepth 100000 in
theorem uX12_variantsOf_279 {G : xG} {fr lo : Nat} {x0 : Nat} {x2 : Nat} {x6 : Nat} {x8 : Nat} {x9 : Int32} {x10 : Int32} {x11 : Int32} {h : xH} {Q : Outcome → xH → Prop} (hq : bX12_variantsOf_279 G fr lo x0 x2 x6 x8 x9 x10 x11 h Q) : xP G YX12_variantsOf fr lo 279 [(0, rv x0), (2, rv x2), (6, rv x6), (8, rv x8), (9, .int x9), (10, .int x10), (11, .int x11)] [] h Q := by
  unfold bX12_variantsOf_279 at hq
  refine x_aload_n 0 dX12_variantsOf_279 rfl ?_
  refine x_bipush (v := 7) dX12_variantsOf_280 (by decide) ?_
  refine x_aload_n 0 dX12_variantsOf_282 rfl ?_
  obtain ⟨g1, hq⟩ := hq
  refine x_get (v := rv (fR h x0 3102)) fdX12_70 dX12_variantsOf_283 g1 rfl ?_
  refine x_iload 6 dX12_variantsOf_286 rfl ?_
  obtain ⟨g2, hq⟩ := hq
  obtain ⟨i3, hq⟩ := hq
  refine x_iald 0 (Or.inl rfl) g2 i3 dX12_variantsOf_288 ?_
  obtain ⟨g4, g5, hq⟩ := hq
  refine x_callV (Yc := YX12_refuse) (as := [.int 7, .int (aI h (fR h x0 3102) (Int32.toNatClampNeg x11))]) (st := []) q4095 mvX12_refuse g1 rfl dX12_variantsOf_289 (xle (xal1 (rv_cat _) (xal1 rfl (xal1 rfl xal0))) (by decide)) (xfr g4) (xlo xsw0 (by decide) g5) (xKv hq (fun h6 hq e8 => ?_) (fun _ _ q _ => q))
  replace hq := hq e8
  exact uX12_variantsOf_292 hq
set_option maxRecDepth 100000 in
def bX12_variantsOf_242 (G : xG) (fr lo : Nat) (x0 : Nat) (x2 : Nat) (x6 : Nat) (x8 : Nat) (x9 : Int32) (x10 : Int32) (x11 : Int32) (h : xH) (Q : Outcome → xH → Prop) : Prop := ((x11 = (-1) → tg h x0 = 13 ∧ 1 ≤ fr ∧ 17 ≤ lo ∧ xRi G YX12_child (fr - 1) (lo - 17) [rv x0, .int x10, .int 1] h (fun x6 h5 => xext h h5 → 1 ≤ fr ∧ 19 ≤ lo ∧ xRv G YX12_fieldsOf (fr - 1) (lo - 19) [rv x0, .int x6, rv x2, rv x6, .int x9] h5 (fun h11 => xext h5 h11 → tg h11 (fR h11 x0 3105) = 100 ∧ vp_in x10 (ln h11 (fR h11 x0 3105)) ∧ lX12_variantsOf_222 G fr lo x0 x2 x6 x8 (x9 + 1) (aI h11 (fR h11 x0 3105) (Int32.toNatClampNeg x10)) h11 Q) (fun r h2 => Q (.threw r) h2)) (fun r h2 => Q (.threw r) h2)) ∧ (¬ x11 = (-1) → tg h x0 = 13 ∧ 1 ≤ fr ∧ 15 ≤ lo ∧ xRv G YX12_constant (fr - 1) (lo - 15) [rv x0, .int x11] h (fun h20 => xext h h20 → tg h20 (fR h20 x0 3138) = 14 ∧ 1 ≤ fr ∧ 12 ≤ lo ∧ xRi G YX13_isOrdinal (fr - 1) (lo - 12) [rv (fR h20 x0 3138)] h20 (fun x28 h27 => xext h20 h27 → ((x28 = 0 → bX12_variantsOf_279 G fr lo x0 x2 x6 x8 x9 x10 x11 h27 Q) ∧ (¬ x28 = 0 → tg h27 (fR h27 x0 3138) = 14 ∧ 1 ≤ fr ∧ 12 ≤ lo ∧ xRr G YX13_own (fr - 1) (lo - 12) [rv (fR h27 x0 3138)] h27 (fun x36 h35 => xext h27 h35 → tg h35 x8 = 14 ∧ 1 ≤ fr ∧ 13 ≤ lo ∧ xRr G YX13_own (fr - 1) (lo - 13) [rv x8] h35 (fun x42 h41 => xext h35 h41 → ((x36 = x42 → bX12_variantsOf_292 G fr lo x0 x2 x6 x8 x9 x10 x11 h41 Q) ∧ (¬ x36 = x42 → bX12_variantsOf_279 G fr lo x0 x2 x6 x8 x9 x10 x11 h41 Q))) (fun r h2 => Q (.threw r) h2)) (fun r h2 => Q (.threw r) h2)))) (fun r h2 => Q (.threw r) h2)) (fun r h2 => Q (.threw r) h2)))
set_option maxRecDepth 100000 in
theorem uX12_variantsOf_242 {G : xG} {fr lo : Nat} {x0 : Nat} {x2 : Nat} {x6 : Nat} {x8 : Nat} {x9 : Int32} {x10 : Int32} {x11 : Int32} {h : xH} {Q : Outcome → xH → Prop} (hq : bX12_variantsOf_242 G fr lo x0 x2 x6 x8 x9 x10 x11 h Q) : xP G YX12_variantsOf fr lo 242 [(0, rv x0), (2, rv x2), (6, rv x6), (8, rv x8), (9, .int x9), (10, .int x10), (11, .int x11)] [] h Q := by
  unfold bX12_variantsOf_242 at hq
  refine x_iload 6 dX12_variantsOf_242 rfl ?_
  refine x_iconst (v := (-1)) dX12_variantsOf_244 (by decide) ?_
  refine x_icmp_eq (tgt := 342) dX12_variantsOf_245 (by decide) (fun c1 => ?_) (fun c1 => ?_)
  · replace hq := hq.1 c1
    refine x_aload_n 0 dX12_variantsOf_342 rfl ?_
    refine x_aload_n 0 dX12_variantsOf_343 rfl ?_
    refine x_iload 5 dX12_variantsOf_344 rfl ?_
    refine x_iconst (v := 1) dX12_variantsOf_346 (by decide) ?_
    obtain ⟨g2, hq⟩ := hq
    obtain ⟨g3, g4, hq⟩ := hq
    refine x_callV (Yc := YX12_child) (as := [.int x10, .int 1]) (st := [rv x0]) q4126 mvX12_child g2 rfl dX12_variantsOf_347 (xle (xal1 (rv_cat _) (xal1 rfl (xal1 rfl xal0))) (by decide)) (xfr g3) (xlo (xsw1 (rv_cat _) xsw0) (by decide) g4) (xKi hq (fun x6 h5 hq e7 => ?_) (fun _ _ q _ => q))
    replace hq := hq e7
    refine x_aload_n 1 dX12_variantsOf_350 rfl ?_
    refine x_aload 2 dX12_variantsOf_351 rfl ?_
    refine x_iload 4 dX12_variantsOf_353 rfl ?_
    have t8 : tg h5 x0 = 13 := e7.tg g2 (by decide)
    obtain ⟨g9, g10, hq⟩ := hq
    refine x_callV (Yc := YX12_fieldsOf) (as := [.int x6, rv x2, rv x6, .int x9]) (st := []) q4199 mvX12_fieldsOf t8 rfl dX12_variantsOf_355 (xle (xal1 (rv_cat _) (xal1 rfl (xal1 (rv_cat _) (xal1 (rv_cat _) (xal1 rfl xal0))))) (by decide)) (xfr g9) (xlo xsw0 (by decide) g10) (xKv hq (fun h11 hq e13 => ?_) (fun _ _ q _ => q))
    replace hq := hq e13
    refine x_iinc (lv' := [(9, .int (x9 + 1)), (0, rv x0), (2, rv x2), (6, rv x6), (8, rv x8), (10, .int x10), (11, .int x11)]) 4 dX12_variantsOf_358 rfl (by decide) (by first | rfl | (simp [rv_cat, Value.category]; done) | (simp [rv_cat, Value.category]; decide)) ?_
    refine x_aload_n 1 dX12_variantsOf_361 rfl ?_
    have t14 : tg h11 x0 = 13 := e13.tg t8 (by decide)
    refine x_get (v := rv (fR h11 x0 3105)) fdX12_79 dX12_variantsOf_362 t14 rfl ?_
    refine x_iload 5 dX12_variantsOf_365 rfl ?_
    obtain ⟨g15, hq⟩ := hq
    obtain ⟨i16, hq⟩ := hq
    refine x_iald 0 (Or.inl rfl) g15 i16 dX12_variantsOf_367 ?_
    refine x_istore (lv' := [(10, .int (aI h11 (fR h11 x0 3105) (Int32.toNatClampNeg x10))), (9, .int (x9 + 1)), (0, rv x0), (2, rv x2), (6, rv x6), (8, rv x8), (11, .int x11)]) dX12_variantsOf_368 (by decide) rfl ?_
    refine x_goto (tgt := 222) dX12_variantsOf_370 (by decide) ?_
    refine xP.pick (lv' := [(0, rv x0), (2, rv x2), (6, rv x6), (8, rv x8), (9, .int (x9 + 1)), (10, .int (aI h11 (fR h11 x0 3105) (Int32.toNatClampNeg x10)))]) [2, 3, 4, 5, 1, 0] rfl ?_
    exact hq
  · replace hq := hq.2 c1
    refine x_aload_n 0 dX12_variantsOf_248 rfl ?_
    refine x_iload 6 dX12_variantsOf_249 rfl ?_
    obtain ⟨g17, hq⟩ := hq
    obtain ⟨g18, g19, hq⟩ := hq
    refine x_callV (Yc := YX12_constant) (as := [.int x11]) (st := []) q4153 mvX12_constant g17 rfl dX12_variantsOf_251 (xle (xal1 (rv_cat _) (xal1 rfl xal0)) (by decide)) (xfr g18) (xlo xsw0 (by decide) g19) (xKv hq (fun h20 hq e22 => ?_) (fun _ _ q _ => q))
    replace hq := hq e22
    refine x_aload_n 0 dX12_variantsOf_254 rfl ?_
    have t23 : tg h20 x0 = 13 := e22.tg g17 (by decide)
    refine x_get (v := rv (fR h20 x0 3138)) fdX12_757 dX12_variantsOf_255 t23 rfl ?_
    obtain ⟨g24, hq⟩ := hq
    obtain ⟨g25, g26, hq⟩ := hq
    refine x_callV (Yc := YX13_isOrdinal) (as := []) (st := []) q4185 mvX13_isOrdinal g24 rfl dX12_variantsOf_258 (xle (xal1 (rv_cat _) xal0) (by decide)) (xfr g25) (xlo xsw0 (by decide) g26) (xKi hq (fun x28 h27 hq e29 => ?_) (fun _ _ q _ => q))
    replace hq := hq e29
    refine x_if_eq (tgt := 279) dX12_variantsOf_261 (by decide) (fun c30 => ?_) (fun c30 => ?_)
    · replace hq := hq.1 c30
      exact uX12_variantsOf_279 hq
    · replace hq := hq.2 c30
      refine x_aload_n 0 dX12_variantsOf_264 rfl ?_
      have t31 : tg h27 x0 = 13 := e29.tg t23 (by decide)
      refine x_get (v := rv (fR h27 x0 3138)) fdX12_757 dX12_variantsOf_265 t31 rfl ?_
      obtain ⟨g32, hq⟩ := hq
      obtain ⟨g33, g34, hq⟩ := hq
      refine x_callV (Yc := YX13_own) (as := []) (st := []) q4189 mvX13_own g32 rfl dX12_variantsOf_268 (xle (xal1 (rv_cat _) xal0) (by decide)) (xfr g33) (xlo xsw0 (by decide) g34) (xKr hq (fun x36 h35 hq e37 => ?_) (fun _ _ q _ => q))
      replace hq := hq e37
      refine x_aload 3 dX12_variantsOf_271 rfl ?_
      obtain ⟨g38, hq⟩ := hq
      obtain ⟨g39, g40, hq⟩ := hq
      refine x_callV (Yc := YX13_own) (as := []) (st := [rv x36]) q4189 mvX13_own g38 rfl dX12_variantsOf_273 (xle (xal1 (rv_cat _) xal0) (by decide)) (xfr g39) (xlo (xsw1 (rv_cat _) xsw0) (by decide) g40) (xKr hq (fun x42 h41 hq e43 => ?_) (fun _ _ q _ => q))
      replace hq := hq e43
      refine x_acmp_eq (tgt := 292) dX12_variantsOf_276 (by decide) (fun c44 => ?_) (fun c44 => ?_)
      · replace hq := hq.1 c44
        exact uX12_variantsOf_292 hq
      · replace hq := hq.2 c44
        exact uX12_variantsOf_279 hq
set_option maxRecDepth 100000 in
def bX12_variantsOf_222 (G : xG) (fr lo : Nat) (x0 : Nat) (x2 : Nat) (x6 : Nat) (x8 : Nat) (x9 : Int32) (x10 : Int32) (h : xH) (Q : Outcome → xH → Prop) : Prop := ((x10 = (-1) → tg h x2 = 14 ∧ 1 ≤ fr ∧ 16 ≤ lo ∧ xRj G YJ10_min_2 (fr - 1) (lo - 16) [.long (fJ h x2 3334), .long 1000000000] h (fun x6 h5 => xext h h5 → tg h5 x6 = 27 ∧ (∀ h9 : xH, h9 = sI h5 x6 6661 (Int64.toInt32 x6) → Q (.returned none) h9)) (fun r h2 => Q (.threw r) h2)) ∧ (¬ x10 = (-1) → tg h x0 = 13 ∧ tg h (fR h x0 3103) = 100 ∧ vp_in x10 (ln h (fR h x0 3103)) ∧ vp_in (aI h (fR h x0 3103) (Int32.toNatClampNeg x10)) (ln h (fR h x0 3103)) ∧ lX12_variantsOf_242 G fr lo x0 x2 x6 x8 x9 x10 (aI h (fR h x0 3103) (Int32.toNatClampNeg (aI h (fR h x0 3103) (Int32.toNatClampNeg x10)))) h Q))
set_option maxRecDepth 100000 in
theorem uX12_variantsOf_222 {G : xG} {fr lo : Nat} {x0 : Nat} {x2 : Nat} {x6 : Nat} {x8 : Nat} {x9 : Int32} {x10 : Int32} {h : xH} {Q : Outcome → xH → Prop} (hq : bX12_variantsOf_222 G fr lo x0 x2 x6 x8 x9 x10 h Q) : xP G YX12_variantsOf fr lo 222 [(0, rv x0), (2, rv x2), (6, rv x6), (8, rv x8), (9, .int x9), (10, .int x10)] [] h Q := by
  unfold bX12_variantsOf_222 at hq
  refine x_iload 5 dX12_variantsOf_222 rfl ?_
  refine x_iconst (v := (-1)) dX12_variantsOf_224 (by decide) ?_
  refine x_icmp_eq (tgt := 373) dX12_variantsOf_225 (by decide) (fun c1 => ?_) (fun c1 => ?_)
  · replace hq := hq.1 c1
    refine x_aload 2 dX12_variantsOf_373 rfl ?_
    refine x_aload_n 1 dX12_variantsOf_375 rfl ?_
    obtain ⟨g2, hq⟩ := hq
    refine x_get (v := .long (fJ h x2 3334)) fdX12_603 dX12_variantsOf_376 g2 rfl ?_
    refine x_ldc2 (v := 1000000000) q4243 dX12_variantsOf_379 ?_
    obtain ⟨g3, g4, hq⟩ := hq
    refine x_callS (Yc := YJ10_min_2) (as := [.long (fJ h x2 3334), .long 1000000000]) (st := [rv x6]) q4244 msJ10_min_2 rfl dX12_variantsOf_382 (xle (xal2 rfl (xal2 rfl xal0)) (by decide)) (xfr g3) (xlo (xsw1 (rv_cat _) xsw0) (by decide) g4) (xKj hq (fun x6 h5 hq e7 => ?_) (fun _ _ q _ => q))
    replace hq := hq e7
    refine x_l2i dX12_variantsOf_385 ?_
    obtain ⟨g8, hq⟩ := hq
    obtain ⟨h9, e10⟩ : ∃ y, y = sI h5 x6 6661 (Int64.toInt32 x6) := ⟨_, rfl⟩
    replace hq := hq h9 e10
    refine x_putI fdX12_921 xty_I1 dX12_variantsOf_386 g8 (Or.inl (by rw [g8]; rfl)) xnI rfl e10 ?_
    exact x_vret rfl dX12_variantsOf_389 hq
  · replace hq := hq.2 c1
    refine x_aload_n 0 dX12_variantsOf_228 rfl ?_
    obtain ⟨g11, hq⟩ := hq
    refine x_get (v := rv (fR h x0 3103)) fdX12_73 dX12_variantsOf_229 g11 rfl ?_
    refine x_aload_n 0 dX12_variantsOf_232 rfl ?_
    refine x_get (v := rv (fR h x0 3103)) fdX12_73 dX12_variantsOf_233 g11 rfl ?_
    refine x_iload 5 dX12_variantsOf_236 rfl ?_
    obtain ⟨g12, hq⟩ := hq
    obtain ⟨i13, hq⟩ := hq
    refine x_iald 0 (Or.inl rfl) g12 i13 dX12_variantsOf_238 ?_
    obtain ⟨i14, hq⟩ := hq
    refine x_iald 0 (Or.inl rfl) g12 i14 dX12_variantsOf_239 ?_
    refine x_istore (lv' := [(11, .int (aI h (fR h x0 3103) (Int32.toNatClampNeg (aI h (fR h x0 3103) (Int32.toNatClampNeg x10))))), (0, rv x0), (2, rv x2), (6, rv x6), (8, rv x8), (9, .int x9), (10, .int x10)]) dX12_variantsOf_240 (by decide) rfl ?_
    refine xP.pick (lv' := [(0, rv x0), (2, rv x2), (6, rv x6), (8, rv x8), (9, .int x9), (10, .int x10), (11, .int (aI h (fR h x0 3103) (Int32.toNatClampNeg (aI h (fR h x0 3103) (Int32.toNatClampNeg x10)))))]) [1, 2, 3, 4, 5, 6, 0] rfl ?_
    exact hq
set_option maxRecDepth 100000 in
def bX12_variantsOf_190 (G : xG) (fr lo : Nat) (x0 : Nat) (x1 : Int32) (x2 : Nat) (x6 : Nat) (x8 : Nat) (h : xH) (Q : Outcome → xH → Prop) : Prop := tg h x2 = 14 ∧ 1 ≤ fr ∧ 16 ≤ lo ∧ xRj G YJ10_min_2 (fr - 1) (lo - 16) [.long (fJ h x2 3334), .long 1000000000] h (fun x5 h4 => xext h h4 → tg h4 x6 = 27 ∧ (∀ h8 : xH, h8 = sI h4 x6 6660 (Int64.toInt32 x5) → tg h8 x0 = 13 ∧ tg h8 (fR h8 x0 3103) = 100 ∧ vp_in x1 (ln h8 (fR h8 x0 3103)) ∧ tg h8 (fR h8 x0 3105) = 100 ∧ vp_in (aI h8 (fR h8 x0 3103) (Int32.toNatClampNeg x1)) (ln h8 (fR h8 x0 3105)) ∧ lX12_variantsOf_222 G fr lo x0 x2 x6 x8 0 (aI h8 (fR h8 x0 3105) (Int32.toNatClampNeg (aI h8 (fR h8 x0 3103) (Int32.toNatClampNeg x1)))) h8 Q)) (fun r h2 => Q (.threw r) h2)
set_option maxRecDepth 100000 in
theorem uX12_variantsOf_190 {G : xG} {fr lo : Nat} {x0 : Nat} {x1 : Int32} {x2 : Nat} {x6 : Nat} {x8 : Nat} {h : xH} {Q : Outcome → xH → Prop} (hq : bX12_variantsOf_190 G fr lo x0 x1 x2 x6 x8 h Q) : xP G YX12_variantsOf fr lo 190 [(0, rv x0), (1, .int x1), (2, rv x2), (6, rv x6), (8, rv x8)] [] h Q := by
  unfold bX12_variantsOf_190 at hq
  refine x_aload 3 dX12_variantsOf_190 rfl ?_
  refine x_aload_n 2 dX12_variantsOf_192 rfl ?_
  obtain ⟨g1, hq⟩ := hq
  refine x_get (v := .long (fJ h x2 3334)) fdX12_603 dX12_variantsOf_193 g1 rfl ?_
  refine x_ldc2 (v := 1000000000) q4243 dX12_variantsOf_196 ?_
  obtain ⟨g2, g3, hq⟩ := hq
  refine x_callS (Yc := YJ10_min_2) (as := [.long (fJ h x2 3334), .long 1000000000]) (st := [rv x6]) q4244 msJ10_min_2 rfl dX12_variantsOf_199 (xle (xal2 rfl (xal2 rfl xal0)) (by decide)) (xfr g2) (xlo (xsw1 (rv_cat _) xsw0) (by decide) g3) (xKj hq (fun x5 h4 hq e6 => ?_) (fun _ _ q _ => q))
  replace hq := hq e6
  refine x_l2i dX12_variantsOf_202 ?_
  obtain ⟨g7, hq⟩ := hq
  obtain ⟨h8, e9⟩ : ∃ y, y = sI h4 x6 6660 (Int64.toInt32 x5) := ⟨_, rfl⟩
  replace hq := hq h8 e9
  refine x_putI fdX12_914 xty_I1 dX12_variantsOf_203 g7 (Or.inl (by rw [g7]; rfl)) xnI rfl e9 ?_
  refine x_iconst (v := 0) dX12_variantsOf_206 (by decide) ?_
  refine x_istore (lv' := [(9, .int 0), (0, rv x0), (1, .int x1), (2, rv x2), (6, rv x6), (8, rv x8)]) dX12_variantsOf_207 (by decide) (by first | rfl | (simp [rv_cat, Value.category]; done) | (simp [rv_cat, Value.category]; decide)) ?_
  refine x_aload_n 1 dX12_variantsOf_209 rfl ?_
  obtain ⟨g10, hq⟩ := hq
  refine x_get (v := rv (fR h8 x0 3105)) fdX12_79 dX12_variantsOf_210 g10 rfl ?_
  refine x_aload_n 1 dX12_variantsOf_213 rfl ?_
  refine x_get (v := rv (fR h8 x0 3103)) fdX12_73 dX12_variantsOf_214 g10 rfl ?_
  refine x_iload_n 2 dX12_variantsOf_217 rfl ?_
  obtain ⟨g11, hq⟩ := hq
  obtain ⟨i12, hq⟩ := hq
  refine x_iald 0 (Or.inl rfl) g11 i12 dX12_variantsOf_218 ?_
  obtain ⟨g13, hq⟩ := hq
  obtain ⟨i14, hq⟩ := hq
  refine x_iald 0 (Or.inl rfl) g13 i14 dX12_variantsOf_219 ?_
  refine x_istore (lv' := [(10, .int (aI h8 (fR h8 x0 3105) (Int32.toNatClampNeg (aI h8 (fR h8 x0 3103) (Int32.toNatClampNeg x1))))), (9, .int 0), (0, rv x0), (1, .int x1), (2, rv x2), (6, rv x6), (8, rv x8)]) dX12_variantsOf_220 (by decide) rfl ?_
  refine xP.pick (lv' := [(0, rv x0), (2, rv x2), (6, rv x6), (8, rv x8), (9, .int 0), (10, .int (aI h8 (fR h8 x0 3105) (Int32.toNatClampNeg (aI h8 (fR h8 x0 3103) (Int32.toNatClampNeg x1)))))]) [2, 4, 5, 6, 1, 0] rfl ?_
  exact hq
set_option maxRecDepth 100000 in
def bX12_variantsOf_124 (G : xG) (fr lo : Nat) (x0 : Nat) (x1 : Int32) (x2 : Nat) (x3 : Nat) (x4 : Int32) (x6 : Nat) (x8 : Nat) (h : xH) (Q : Outcome → xH → Prop) : Prop := tg h x2 = 14 ∧ 1 ≤ fr ∧ 16 ≤ lo ∧ xRj G YJ10_min_2 (fr - 1) (lo - 16) [.long (fJ h x2 3334), .long 1000000000] h (fun x5 h4 => xext h h4 → tg h4 x6 = 27 ∧ (∀ h8 : xH, h8 = sI h4 x6 6659 (Int64.toInt32 x5) → tg h8 x0 = 13 ∧ tg h8 (fR h8 x0 3106) = 100 ∧ vp_in x1 (ln h8 (fR h8 x0 3106)) ∧ (((aI h8 (fR h8 x0 3106) (Int32.toNatClampNeg x1)) = (-1) → (∀ h16 : xH, h16 = sJ h8 x2 3334 ((fJ h8 x2 3334) + 1) → bX12_variantsOf_190 G fr lo x0 x1 x2 x6 x8 h16 Q)) ∧ (¬ (aI h8 (fR h8 x0 3106) (Int32.toNatClampNeg x1)) = (-1) → (∀ h19 : xH, h19 = sI h8 x6 6658 1 → tg h19 (fR h19 x0 3106) = 100 ∧ vp_in x1 (ln h19 (fR h19 x0 3106)) ∧ 1 ≤ fr ∧ 18 ≤ lo ∧ xRr G YX12_field (fr - 1) (lo - 18) [rv x0, .int (aI h19 (fR h19 x0 3106) (Int32.toNatClampNeg x1)), rv x8, rv x2, rv x3, .int x4] h19 (fun x27 h26 => xext h19 h26 → tg h26 x27 = 24 ∧ (∀ h30 : xH, h30 = sR h26 x27 5901 x6 → bX12_variantsOf_190 G fr lo x0 x1 x2 x6 x8 h30 Q)) (fun r h2 => Q (.threw r) h2)))))) (fun r h2 => Q (.threw r) h2)
set_option maxRecDepth 100000 in
theorem uX12_variantsOf_124 {G : xG} {fr lo : Nat} {x0 : Nat} {x1 : Int32} {x2 : Nat} {x3 : Nat} {x4 : Int32} {x6 : Nat} {x8 : Nat} {h : xH} {Q : Outcome → xH → Prop} (hq : bX12_variantsOf_124 G fr lo x0 x1 x2 x3 x4 x6 x8 h Q) : xP G YX12_variantsOf fr lo 124 [(0, rv x0), (1, .int x1), (2, rv x2), (3, rv x3), (4, .int x4), (6, rv x6), (8, rv x8)] [] h Q := by
  unfold bX12_variantsOf_124 at hq
  refine x_aload 5 dX12_variantsOf_124 rfl ?_
  refine x_aload_n 2 dX12_variantsOf_126 rfl ?_
  obtain ⟨g1, hq⟩ := hq
  refine x_get (v := .long (fJ h x2 3334)) fdX12_603 dX12_variantsOf_127 g1 rfl ?_
  refine x_ldc2 (v := 1000000000) q4243 dX12_variantsOf_130 ?_
  obtain ⟨g2, g3, hq⟩ := hq
  refine x_callS (Yc := YJ10_min_2) (as := [.long (fJ h x2 3334), .long 1000000000]) (st := [rv x6]) q4244 msJ10_min_2 rfl dX12_variantsOf_133 (xle (xal2 rfl (xal2 rfl xal0)) (by decide)) (xfr g2) (xlo (xsw1 (rv_cat _) xsw0) (by decide) g3) (xKj hq (fun x5 h4 hq e6 => ?_) (fun _ _ q _ => q))
  replace hq := hq e6
  refine x_l2i dX12_variantsOf_136 ?_
  obtain ⟨g7, hq⟩ := hq
  obtain ⟨h8, e9⟩ : ∃ y, y = sI h4 x6 6659 (Int64.toInt32 x5) := ⟨_, rfl⟩
  replace hq := hq h8 e9
  refine x_putI fdX12_905 xty_I1 dX12_variantsOf_137 g7 (Or.inl (by rw [g7]; rfl)) xnI rfl e9 ?_
  refine x_aload_n 0 dX12_variantsOf_140 rfl ?_
  obtain ⟨g10, hq⟩ := hq
  refine x_get (v := rv (fR h8 x0 3106)) fdX12_82 dX12_variantsOf_141 g10 rfl ?_
  refine x_iload_n 1 dX12_variantsOf_144 rfl ?_
  obtain ⟨g11, hq⟩ := hq
  obtain ⟨i12, hq⟩ := hq
  refine x_iald 0 (Or.inl rfl) g11 i12 dX12_variantsOf_145 ?_
  refine x_iconst (v := (-1)) dX12_variantsOf_146 (by decide) ?_
  refine x_icmp_eq (tgt := 180) dX12_variantsOf_147 (by decide) (fun c13 => ?_) (fun c13 => ?_)
  · replace hq := hq.1 c13
    refine x_aload_n 2 dX12_variantsOf_180 rfl ?_
    refine x_dup dX12_variantsOf_181 (rv_cat _) ?_
    have t14 : tg h4 x2 = 14 := e6.tg g1 (by decide)
    have t15 : tg h8 x2 = 14 := by rw [e9]; exact t14
    refine x_get (v := .long (fJ h8 x2 3334)) fdX12_603 dX12_variantsOf_182 t15 rfl ?_
    refine x_lconst (v := 1) dX12_variantsOf_185 (by decide) ?_
    refine x_ladd dX12_variantsOf_186 ?_
    obtain ⟨h16, e17⟩ : ∃ y, y = sJ h8 x2 3334 ((fJ h8 x2 3334) + 1) := ⟨_, rfl⟩
    replace hq := hq h16 e17
    refine x_putJ fdX12_603 dX12_variantsOf_187 t15 (Or.inl (by rw [t15]; rfl)) rfl e17 ?_
    refine xP.pick (lv' := [(0, rv x0), (1, .int x1), (2, rv x2), (6, rv x6), (8, rv x8)]) [0, 1, 2, 5, 6] rfl ?_
    exact uX12_variantsOf_190 hq
  · replace hq := hq.2 c13
    refine x_aload 5 dX12_variantsOf_150 rfl ?_
    refine x_iconst (v := 1) dX12_variantsOf_152 (by decide) ?_
    have t18 : tg h8 x6 = 27 := by rw [e9]; exact g7
    obtain ⟨h19, e20⟩ : ∃ y, y = sI h8 x6 6658 1 := ⟨_, rfl⟩
    replace hq := hq h19 e20
    refine x_putI fdX12_908 xty_Z1 dX12_variantsOf_153 t18 (Or.inl (by rw [t18]; rfl)) (xnB (Or.inr rfl)) rfl e20 ?_
    refine x_aload_n 0 dX12_variantsOf_156 rfl ?_
    refine x_aload_n 0 dX12_variantsOf_157 rfl ?_
    have t21 : tg h19 x0 = 13 := by rw [e20]; exact g10
    refine x_get (v := rv (fR h19 x0 3106)) fdX12_82 dX12_variantsOf_158 t21 rfl ?_
    refine x_iload_n 1 dX12_variantsOf_161 rfl ?_
    obtain ⟨g22, hq⟩ := hq
    obtain ⟨i23, hq⟩ := hq
    refine x_iald 0 (Or.inl rfl) g22 i23 dX12_variantsOf_162 ?_
    refine x_aload 6 dX12_variantsOf_163 rfl ?_
    refine x_aload_n 2 dX12_variantsOf_165 rfl ?_
    refine x_aload_n 3 dX12_variantsOf_166 rfl ?_
    refine x_iload 4 dX12_variantsOf_167 rfl ?_
    obtain ⟨g24, g25, hq⟩ := hq
    refine x_callV (Yc := YX12_field) (as := [.int (aI h19 (fR h19 x0 3106) (Int32.toNatClampNeg x1)), rv x8, rv x2, rv x3, .int x4]) (st := []) q4247 mvX12_field t21 rfl dX12_variantsOf_169 (xle (xal1 (rv_cat _) (xal1 rfl (xal1 (rv_cat _) (xal1 (rv_cat _) (xal1 (rv_cat _) (xal1 rfl xal0)))))) (by decide)) (xfr g24) (xlo xsw0 (by decide) g25) (xKr hq (fun x27 h26 hq e28 => ?_) (fun _ _ q _ => q))
    replace hq := hq e28
    refine x_aload 5 dX12_variantsOf_172 rfl ?_
    obtain ⟨g29, hq⟩ := hq
    obtain ⟨h30, e31⟩ : ∃ y, y = sR h26 x27 5901 x6 := ⟨_, rfl⟩
    replace hq := hq h30 e31
    refine x_putR fdX12_911 xty_O dX12_variantsOf_174 g29 (Or.inl (by rw [g29]; rfl)) rfl e31 ?_
    refine x_goto (tgt := 190) dX12_variantsOf_177 (by decide) ?_
    refine xP.pick (lv' := [(0, rv x0), (1, .int x1), (2, rv x2), (6, rv x6), (8, rv x8)]) [0, 1, 2, 5, 6] rfl ?_
    exact uX12_variantsOf_190 hq
set_option maxRecDepth 100000 in
def bX12_variantsOf_36 (G : xG) (fr lo : Nat) (x0 : Nat) (x1 : Int32) (x2 : Nat) (x3 : Nat) (x4 : Int32) (x5 : Int32) (x6 : Int32) (x7 : Int32) (h : xH) (Q : Outcome → xH → Prop) : Prop := ((x7 = (-1) → tg h x0 = 13 ∧ tg h (fR h x0 3105) = 100 ∧ vp_in x6 (ln h (fR h x0 3105)) ∧ lX12_variantsOf_16 G fr lo x0 x1 x2 x3 x4 x5 (aI h (fR h x0 3105) (Int32.toNatClampNeg x6)) h Q) ∧ (¬ x7 = (-1) → tg h x0 = 13 ∧ tg h (fR h x0 3105) = 100 ∧ vp_in x7 (ln h (fR h x0 3105)) ∧ lX12_variantsOf_36 G fr lo x0 x1 x2 x3 x4 (x5 + 1) x6 (aI h (fR h x0 3105) (Int32.toNatClampNeg x7)) h Q))
set_option maxRecDepth 100000 in
theorem uX12_variantsOf_36 {G : xG} {fr lo : Nat} {x0 : Nat} {x1 : Int32} {x2 : Nat} {x3 : Nat} {x4 : Int32} {x5 : Int32} {x6 : Int32} {x7 : Int32} {h : xH} {Q : Outcome → xH → Prop} (hq : bX12_variantsOf_36 G fr lo x0 x1 x2 x3 x4 x5 x6 x7 h Q) : xP G YX12_variantsOf fr lo 36 [(0, rv x0), (1, .int x1), (2, rv x2), (3, rv x3), (4, .int x4), (5, .int x5), (6, .int x6), (7, .int x7)] [] h Q := by
  unfold bX12_variantsOf_36 at hq
  refine x_iload 7 dX12_variantsOf_36 rfl ?_
  refine x_iconst (v := (-1)) dX12_variantsOf_38 (by decide) ?_
  refine x_icmp_eq (tgt := 57) dX12_variantsOf_39 (by decide) (fun c1 => ?_) (fun c1 => ?_)
  · replace hq := hq.1 c1
    refine x_aload_n 0 dX12_variantsOf_57 rfl ?_
    obtain ⟨g2, hq⟩ := hq
    refine x_get (v := rv (fR h x0 3105)) fdX12_79 dX12_variantsOf_58 g2 rfl ?_
    refine x_iload 6 dX12_variantsOf_61 rfl ?_
    obtain ⟨g3, hq⟩ := hq
    obtain ⟨i4, hq⟩ := hq
    refine x_iald 0 (Or.inl rfl) g3 i4 dX12_variantsOf_63 ?_
    refine x_istore (lv' := [(6, .int (aI h (fR h x0 3105) (Int32.toNatClampNeg x6))), (0, rv x0), (1, .int x1), (2, rv x2), (3, rv x3), (4, .int x4), (5, .int x5), (7, .int x7)]) dX12_variantsOf_64 (by decide) rfl ?_
    refine x_goto (tgt := 16) dX12_variantsOf_66 (by decide) ?_
    refine xP.pick (lv' := [(0, rv x0), (1, .int x1), (2, rv x2), (3, rv x3), (4, .int x4), (5, .int x5), (6, .int (aI h (fR h x0 3105) (Int32.toNatClampNeg x6)))]) [1, 2, 3, 4, 5, 6, 0] rfl ?_
    exact hq
  · replace hq := hq.2 c1
    refine x_iinc (lv' := [(5, .int (x5 + 1)), (0, rv x0), (1, .int x1), (2, rv x2), (3, rv x3), (4, .int x4), (6, .int x6), (7, .int x7)]) 5 dX12_variantsOf_42 rfl (by decide) rfl ?_
    refine x_aload_n 1 dX12_variantsOf_45 rfl ?_
    obtain ⟨g5, hq⟩ := hq
    refine x_get (v := rv (fR h x0 3105)) fdX12_79 dX12_variantsOf_46 g5 rfl ?_
    refine x_iload 7 dX12_variantsOf_49 rfl ?_
    obtain ⟨g6, hq⟩ := hq
    obtain ⟨i7, hq⟩ := hq
    refine x_iald 0 (Or.inl rfl) g6 i7 dX12_variantsOf_51 ?_
    refine x_istore (lv' := [(7, .int (aI h (fR h x0 3105) (Int32.toNatClampNeg x7))), (5, .int (x5 + 1)), (0, rv x0), (1, .int x1), (2, rv x2), (3, rv x3), (4, .int x4), (6, .int x6)]) dX12_variantsOf_52 (by decide) rfl ?_
    refine x_goto (tgt := 36) dX12_variantsOf_54 (by decide) ?_
    refine xP.pick (lv' := [(0, rv x0), (1, .int x1), (2, rv x2), (3, rv x3), (4, .int x4), (5, .int (x5 + 1)), (6, .int x6), (7, .int (aI h (fR h x0 3105) (Int32.toNatClampNeg x7)))]) [2, 3, 4, 5, 6, 1, 7, 0] rfl ?_
    exact hq
set_option maxRecDepth 100000 in
def bX12_variantsOf_16 (G : xG) (fr lo : Nat) (x0 : Nat) (x1 : Int32) (x2 : Nat) (x3 : Nat) (x4 : Int32) (x5 : Int32) (x6 : Int32) (h : xH) (Q : Outcome → xH → Prop) : Prop := ((x6 = (-1) → nx h + 1 ≤ xGN G ∧ us h + 9 ≤ xGU G ∧ (∀ (a4 : Nat) (h5 : xH), a4 = nx h + 1 → h5 = nO h 27 9 → xfresh h a4 → 1 ≤ fr ∧ 16 ≤ lo ∧ xRv G YX26_init (fr - 1) (lo - 16) [rv a4, rv x3, .int x4, .int x5] h5 (fun h12 => xext h5 h12 → tg h12 x0 = 13 ∧ tg h12 (fR h12 x0 3103) = 100 ∧ vp_in x1 (ln h12 (fR h12 x0 3103)) ∧ tg h12 (fR h12 x0 3102) = 100 ∧ vp_in (aI h12 (fR h12 x0 3103) (Int32.toNatClampNeg x1)) (ln h12 (fR h12 x0 3102)) ∧ 1 ≤ fr ∧ 15 ≤ lo ∧ xRr G YX12_findOf (fr - 1) (lo - 15) [rv x0, .int (aI h12 (fR h12 x0 3102) (Int32.toNatClampNeg (aI h12 (fR h12 x0 3103) (Int32.toNatClampNeg x1)))), .int 2] h12 (fun x23 h22 => xext h12 h22 → tg h22 x23 = 24 ∧ tg h22 (fR h22 x23 5890) = 14 ∧ 1 ≤ fr ∧ 12 ≤ lo ∧ xRi G YX13_isOrdinal (fr - 1) (lo - 12) [rv (fR h22 x23 5890)] h22 (fun x30 h29 => xext h22 h29 → ((¬ x30 = 0 → bX12_variantsOf_124 G fr lo x0 x1 x2 x3 x4 a4 (fR h22 x23 5890) h29 Q) ∧ (x30 = 0 → 1 ≤ fr ∧ 14 ≤ lo ∧ xRv G YX12_refuse (fr - 1) (lo - 14) [rv x0, .int 7, .int (aI h12 (fR h12 x0 3102) (Int32.toNatClampNeg (aI h12 (fR h12 x0 3103) (Int32.toNatClampNeg x1))))] h29 (fun h37 => xext h29 h37 → bX12_variantsOf_124 G fr lo x0 x1 x2 x3 x4 a4 (fR h22 x23 5890) h37 Q) (fun r h2 => Q (.threw r) h2)))) (fun r h2 => Q (.threw r) h2)) (fun r h2 => Q (.threw r) h2)) (fun r h2 => Q (.threw r) h2))) ∧ (¬ x6 = (-1) → tg h x0 = 13 ∧ tg h (fR h x0 3103) = 100 ∧ vp_in x6 (ln h (fR h x0 3103)) ∧ vp_in (aI h (fR h x0 3103) (Int32.toNatClampNeg x6)) (ln h (fR h x0 3103)) ∧ lX12_variantsOf_36 G fr lo x0 x1 x2 x3 x4 x5 x6 (aI h (fR h x0 3103) (Int32.toNatClampNeg (aI h (fR h x0 3103) (Int32.toNatClampNeg x6)))) h Q))
set_option maxRecDepth 100000 in
theorem uX12_variantsOf_16 {G : xG} {fr lo : Nat} {x0 : Nat} {x1 : Int32} {x2 : Nat} {x3 : Nat} {x4 : Int32} {x5 : Int32} {x6 : Int32} {h : xH} {Q : Outcome → xH → Prop} (hq : bX12_variantsOf_16 G fr lo x0 x1 x2 x3 x4 x5 x6 h Q) : xP G YX12_variantsOf fr lo 16 [(0, rv x0), (1, .int x1), (2, rv x2), (3, rv x3), (4, .int x4), (5, .int x5), (6, .int x6)] [] h Q := by
  unfold bX12_variantsOf_16 at hq
  refine x_iload 6 dX12_variantsOf_16 rfl ?_
  refine x_iconst (v := (-1)) dX12_variantsOf_18 (by decide) ?_
  refine x_icmp_eq (tgt := 69) dX12_variantsOf_19 (by decide) (fun c1 => ?_) (fun c1 => ?_)
  · replace hq := hq.1 c1
    obtain ⟨g2, g3, hq⟩ := hq
    obtain ⟨a4, e6⟩ : ∃ y, y = nx h + 1 := ⟨_, rfl⟩
    obtain ⟨h5, e7⟩ : ∃ y, y = nO h 27 9 := ⟨_, rfl⟩
    refine x_new' cdX12_900 dX12_variantsOf_69 g2 g3 e6 e7 (fun f8 => ?_)
    replace hq := hq a4 h5 e6 e7 f8
    have t9 : tg h5 a4 = 27 := by rw [e7, e6]; exact tg_nO
    refine x_dup dX12_variantsOf_72 (rv_cat _) ?_
    refine x_aload_n 3 dX12_variantsOf_73 rfl ?_
    refine x_iload 4 dX12_variantsOf_74 rfl ?_
    refine x_iload 5 dX12_variantsOf_76 rfl ?_
    obtain ⟨g10, g11, hq⟩ := hq
    refine x_callI (Yc := YX26_init) (as := [rv x3, .int x4, .int x5]) (st := [rv a4]) q4209 miX26_init (by rw [t9]; decide) rfl dX12_variantsOf_78 (xle (xal1 (rv_cat _) (xal1 (rv_cat _) (xal1 rfl (xal1 rfl xal0)))) (by decide)) (xfr g10) (xlo (xsw1 (rv_cat _) xsw0) (by decide) g11) (xKv hq (fun h12 hq e14 => ?_) (fun _ _ q _ => q))
    replace hq := hq e14
    refine x_astore (lv' := [(6, rv a4), (0, rv x0), (1, .int x1), (2, rv x2), (3, rv x3), (4, .int x4), (5, .int x5)]) dX12_variantsOf_81 (by decide) rfl ?_
    refine x_aload_n 1 dX12_variantsOf_83 rfl ?_
    obtain ⟨g15, hq⟩ := hq
    refine x_get (v := rv (fR h12 x0 3102)) fdX12_70 dX12_variantsOf_84 g15 rfl ?_
    refine x_aload_n 1 dX12_variantsOf_87 rfl ?_
    refine x_get (v := rv (fR h12 x0 3103)) fdX12_73 dX12_variantsOf_88 g15 rfl ?_
    refine x_iload_n 2 dX12_variantsOf_91 rfl ?_
    obtain ⟨g16, hq⟩ := hq
    obtain ⟨i17, hq⟩ := hq
    refine x_iald 0 (Or.inl rfl) g16 i17 dX12_variantsOf_92 ?_
    obtain ⟨g18, hq⟩ := hq
    obtain ⟨i19, hq⟩ := hq
    refine x_iald 0 (Or.inl rfl) g18 i19 dX12_variantsOf_93 ?_
    refine x_istore (lv' := [(7, .int (aI h12 (fR h12 x0 3102) (Int32.toNatClampNeg (aI h12 (fR h12 x0 3103) (Int32.toNatClampNeg x1))))), (6, rv a4), (0, rv x0), (1, .int x1), (2, rv x2), (3, rv x3), (4, .int x4), (5, .int x5)]) dX12_variantsOf_94 (by decide) (by first | rfl | (simp [rv_cat, Value.category]; done) | (simp [rv_cat, Value.category]; decide)) ?_
    refine x_aload_n 2 dX12_variantsOf_96 rfl ?_
    refine x_iload 0 dX12_variantsOf_97 rfl ?_
    refine x_iconst (v := 2) dX12_variantsOf_99 (by decide) ?_
    obtain ⟨g20, g21, hq⟩ := hq
    refine x_callV (Yc := YX12_findOf) (as := [.int (aI h12 (fR h12 x0 3102) (Int32.toNatClampNeg (aI h12 (fR h12 x0 3103) (Int32.toNatClampNeg x1)))), .int 2]) (st := []) q4157 mvX12_findOf g15 rfl dX12_variantsOf_100 (xle (xal1 (rv_cat _) (xal1 rfl (xal1 rfl xal0))) (by decide)) (xfr g20) (xlo xsw0 (by decide) g21) (xKr hq (fun x23 h22 hq e24 => ?_) (fun _ _ q _ => q))
    replace hq := hq e24
    obtain ⟨g25, hq⟩ := hq
    refine x_get (v := rv (fR h22 x23 5890)) fdX12_612 dX12_variantsOf_103 g25 rfl ?_
    refine x_astore (lv' := [(8, rv (fR h22 x23 5890)), (7, .int (aI h12 (fR h12 x0 3102) (Int32.toNatClampNeg (aI h12 (fR h12 x0 3103) (Int32.toNatClampNeg x1))))), (6, rv a4), (0, rv x0), (1, .int x1), (2, rv x2), (3, rv x3), (4, .int x4), (5, .int x5)]) dX12_variantsOf_106 (by decide) rfl ?_
    refine x_aload 0 dX12_variantsOf_108 rfl ?_
    obtain ⟨g26, hq⟩ := hq
    obtain ⟨g27, g28, hq⟩ := hq
    refine x_callV (Yc := YX13_isOrdinal) (as := []) (st := []) q4185 mvX13_isOrdinal g26 rfl dX12_variantsOf_110 (xle (xal1 (rv_cat _) xal0) (by decide)) (xfr g27) (xlo xsw0 (by decide) g28) (xKi hq (fun x30 h29 hq e31 => ?_) (fun _ _ q _ => q))
    replace hq := hq e31
    refine x_if_ne (tgt := 124) dX12_variantsOf_113 (by decide) (fun c32 => ?_) (fun c32 => ?_)
    · replace hq := hq.1 c32
      refine xP.pick (lv' := [(0, rv x0), (1, .int x1), (2, rv x2), (3, rv x3), (4, .int x4), (6, rv a4), (8, rv (fR h22 x23 5890))]) [3, 4, 5, 6, 7, 2, 0] rfl ?_
      exact uX12_variantsOf_124 hq
    · replace hq := hq.2 c32
      refine x_aload_n 3 dX12_variantsOf_116 rfl ?_
      refine x_bipush (v := 7) dX12_variantsOf_117 (by decide) ?_
      refine x_iload 1 dX12_variantsOf_119 rfl ?_
      have t33 : tg h22 x0 = 13 := e24.tg g15 (by decide)
      have t34 : tg h29 x0 = 13 := e31.tg t33 (by decide)
      obtain ⟨g35, g36, hq⟩ := hq
      refine x_callV (Yc := YX12_refuse) (as := [.int 7, .int (aI h12 (fR h12 x0 3102) (Int32.toNatClampNeg (aI h12 (fR h12 x0 3103) (Int32.toNatClampNeg x1))))]) (st := []) q4095 mvX12_refuse t34 rfl dX12_variantsOf_121 (xle (xal1 (rv_cat _) (xal1 rfl (xal1 rfl xal0))) (by decide)) (xfr g35) (xlo xsw0 (by decide) g36) (xKv hq (fun h37 hq e39 => ?_) (fun _ _ q _ => q))
      replace hq := hq e39
      refine xP.pick (lv' := [(0, rv x0), (1, .int x1), (2, rv x2), (3, rv x3), (4, .int x4), (6, rv a4), (8, rv (fR h22 x23 5890))]) [3, 4, 5, 6, 7, 2, 0] rfl ?_
      exact uX12_variantsOf_124 hq
  · replace hq := hq.2 c1
    refine x_aload_n 0 dX12_variantsOf_22 rfl ?_
    obtain ⟨g40, hq⟩ := hq
    refine x_get (v := rv (fR h x0 3103)) fdX12_73 dX12_variantsOf_23 g40 rfl ?_
    refine x_aload_n 0 dX12_variantsOf_26 rfl ?_
    refine x_get (v := rv (fR h x0 3103)) fdX12_73 dX12_variantsOf_27 g40 rfl ?_
    refine x_iload 6 dX12_variantsOf_30 rfl ?_
    obtain ⟨g41, hq⟩ := hq
    obtain ⟨i42, hq⟩ := hq
    refine x_iald 0 (Or.inl rfl) g41 i42 dX12_variantsOf_32 ?_
    obtain ⟨i43, hq⟩ := hq
    refine x_iald 0 (Or.inl rfl) g41 i43 dX12_variantsOf_33 ?_
    refine x_istore (lv' := [(7, .int (aI h (fR h x0 3103) (Int32.toNatClampNeg (aI h (fR h x0 3103) (Int32.toNatClampNeg x6))))), (0, rv x0), (1, .int x1), (2, rv x2), (3, rv x3), (4, .int x4), (5, .int x5), (6, .int x6)]) dX12_variantsOf_34 (by decide) rfl ?_
    refine xP.pick (lv' := [(0, rv x0), (1, .int x1), (2, rv x2), (3, rv x3), (4, .int x4), (5, .int x5), (6, .int x6), (7, .int (aI h (fR h x0 3103) (Int32.toNatClampNeg (aI h (fR h x0 3103) (Int32.toNatClampNeg x6)))))]) [1, 2, 3, 4, 5, 6, 7, 0] rfl ?_
    exact hq
set_option maxRecDepth 100000 in
def bX12_variantsOf (G : xG) (fr lo : Nat) (x0 : Nat) (x1 : Int32) (x2 : Nat) (x3 : Nat) (x4 : Int32) (h : xH) (Q : Outcome → xH → Prop) : Prop := tg h x0 = 13 ∧ tg h (fR h x0 3103) = 100 ∧ vp_in x1 (ln h (fR h x0 3103)) ∧ tg h (fR h x0 3105) = 100 ∧ vp_in (aI h (fR h x0 3103) (Int32.toNatClampNeg x1)) (ln h (fR h x0 3105)) ∧ lX12_variantsOf_16 G fr lo x0 x1 x2 x3 x4 0 (aI h (fR h x0 3105) (Int32.toNatClampNeg (aI h (fR h x0 3103) (Int32.toNatClampNeg x1)))) h Q
set_option maxRecDepth 100000 in
theorem uX12_variantsOf {G : xG} {fr lo : Nat} {x0 : Nat} {x1 : Int32} {x2 : Nat} {x3 : Nat} {x4 : Int32} {h : xH} {Q : Outcome → xH → Prop} (hq : bX12_variantsOf G fr lo x0 x1 x2 x3 x4 h Q) : xP G YX12_variantsOf fr lo 0 [(0, rv x0), (1, .int x1), (2, rv x2), (3, rv x3), (4, .int x4)] [] h Q := by
  unfold bX12_variantsOf at hq
  refine x_iconst (v := 0) dX12_variantsOf_0 (by decide) ?_
  refine x_istore (lv' := [(5, .int 0), (0, rv x0), (1, .int x1), (2, rv x2), (3, rv x3), (4, .int x4)]) dX12_variantsOf_1 (by decide) rfl ?_
  refine x_aload_n 1 dX12_variantsOf_3 rfl ?_
  obtain ⟨g1, hq⟩ := hq
  refine x_get (v := rv (fR h x0 3105)) fdX12_79 dX12_variantsOf_4 g1 rfl ?_
  refine x_aload_n 1 dX12_variantsOf_7 rfl ?_
  refine x_get (v := rv (fR h x0 3103)) fdX12_73 dX12_variantsOf_8 g1 rfl ?_
  refine x_iload_n 2 dX12_variantsOf_11 rfl ?_
  obtain ⟨g2, hq⟩ := hq
  obtain ⟨i3, hq⟩ := hq
  refine x_iald 0 (Or.inl rfl) g2 i3 dX12_variantsOf_12 ?_
  obtain ⟨g4, hq⟩ := hq
  obtain ⟨i5, hq⟩ := hq
  refine x_iald 0 (Or.inl rfl) g4 i5 dX12_variantsOf_13 ?_
  refine x_istore (lv' := [(6, .int (aI h (fR h x0 3105) (Int32.toNatClampNeg (aI h (fR h x0 3103) (Int32.toNatClampNeg x1))))), (5, .int 0), (0, rv x0), (1, .int x1), (2, rv x2), (3, rv x3), (4, .int x4)]) dX12_variantsOf_14 (by decide) rfl ?_
  refine xP.pick (lv' := [(0, rv x0), (1, .int x1), (2, rv x2), (3, rv x3), (4, .int x4), (5, .int 0), (6, .int (aI h (fR h x0 3105) (Int32.toNatClampNeg (aI h (fR h x0 3103) (Int32.toNatClampNeg x1)))))]) [2, 3, 4, 5, 6, 1, 0] rfl ?_
  exact hq
theorem rX12_variantsOf {G : xG} {fr lo : Nat} {x0 : Nat} {x1 : Int32} {x2 : Nat} {x3 : Nat} {x4 : Int32} {h : xH} {Q : Outcome → xH → Prop} (hq : bX12_variantsOf G fr lo x0 x1 x2 x3 x4 h Q) : xR G YX12_variantsOf fr lo [rv x0, .int x1, rv x2, rv x3, .int x4] h Q := by
  show xP _ _ _ _ _ (lv_args 0 _) _ _ _
  rw [show lv_args 0 [rv x0, .int x1, rv x2, rv x3, .int x4] = [(0, rv x0), (1, .int x1), (2, rv x2), (3, rv x3), (4, .int x4)] from (xla1 (rv_cat _) (xla1 rfl (xla1 (rv_cat _) (xla1 (rv_cat _) (xla1 rfl xla0)))))]
  exact uX12_variantsOf hq
set_option maxRecDepth 100000 in
theorem dX12_field_0 : decode cX12_field 0 = .ok (.aload_n 0, 1) := by decide +kernel
set_option maxRecDepth 100000 in
theorem dX12_field_1 : decode cX12_field 1 = .ok (.iconst 4, 1) := by decide +kernel
set_option maxRecDepth 100000 in
theorem dX12_field_2 : decode cX12_field 2 = .ok (.iload_n 1, 1) := by decide +kernel
set_option maxRecDepth 100000 in
theorem dX12_field_3 : decode cX12_field 3 = .ok (.aload_n 3, 1) := by decide +kernel
set_option maxRecDepth 100000 in
theorem dX12_field_4 : decode cX12_field 4 = .ok (.getfield 852, 3) := by decide +kernel
set_option maxRecDepth 100000 in
theorem dX12_field_7 : decode cX12_field 7 = .ok (.invokevirtual 698, 3) := by decide +kernel
set_option maxRecDepth 100000 in
theorem dX12_field_10 : decode cX12_field 10 = .ok (.astore 6, 2) := by decide +kernel
set_option maxRecDepth 100000 in
theorem dX12_field_12 : decode cX12_field 12 = .ok (.aload 6, 2) := by decide +kernel
set_option maxRecDepth 100000 in
theorem dX12_field_14 : decode cX12_field 14 = .ok (.aload_n 2, 1) := by decide +kernel
set_option maxRecDepth 100000 in
theorem dX12_field_15 : decode cX12_field 15 = .ok (.putfield 612, 3) := by decide +kernel
set_option maxRecDepth 100000 in
theorem dX12_field_18 : decode cX12_field 18 = .ok (.aload 6, 2) := by decide +kernel
set_option maxRecDepth 100000 in
theorem dX12_field_20 : decode cX12_field 20 = .ok (.aload_n 3, 1) := by decide +kernel
set_option maxRecDepth 100000 in
theorem dX12_field_21 : decode cX12_field 21 = .ok (.getfield 603, 3) := by decide +kernel
set_option maxRecDepth 100000 in
theorem dX12_field_24 : decode cX12_field 24 = .ok (.ldc2_w 885, 3) := by decide +kernel
set_option maxRecDepth 100000 in
theorem dX12_field_27 : decode cX12_field 27 = .ok (.invokestatic 887, 3) := by decide +kernel
set_option maxRecDepth 100000 in
theorem dX12_field_30 : decode cX12_field 30 = .ok (.l2i, 1) := by decide +kernel
set_option maxRecDepth 100000 in
theorem dX12_field_31 : decode cX12_field 31 = .ok (.putfield 713, 3) := by decide +kernel
set_option maxRecDepth 100000 in
theorem dX12_field_34 : decode cX12_field 34 = .ok (.aload 6, 2) := by decide +kernel
set_option maxRecDepth 100000 in
theorem dX12_field_36 : decode cX12_field 36 = .ok (.aload 4, 2) := by decide +kernel
set_option maxRecDepth 100000 in
theorem dX12_field_38 : decode cX12_field 38 = .ok (.putfield 893, 3) := by decide +kernel
set_option maxRecDepth 100000 in
theorem dX12_field_41 : decode cX12_field 41 = .ok (.aload 6, 2) := by decide +kernel
set_option maxRecDepth 100000 in
theorem dX12_field_43 : decode cX12_field 43 = .ok (.iload 5, 2) := by decide +kernel
set_option maxRecDepth 100000 in
theorem dX12_field_45 : decode cX12_field 45 = .ok (.putfield 897, 3) := by decide +kernel
set_option maxRecDepth 100000 in
theorem dX12_field_48 : decode cX12_field 48 = .ok (.aload_n 3, 1) := by decide +kernel
set_option maxRecDepth 100000 in
theorem dX12_field_49 : decode cX12_field 49 = .ok (.dup, 1) := by decide +kernel
set_option maxRecDepth 100000 in
theorem dX12_field_50 : decode cX12_field 50 = .ok (.getfield 603, 3) := by decide +kernel
set_option maxRecDepth 100000 in
theorem dX12_field_53 : decode cX12_field 53 = .ok (.aload_n 2, 1) := by decide +kernel
set_option maxRecDepth 100000 in
theorem dX12_field_54 : decode cX12_field 54 = .ok (.getfield 603, 3) := by decide +kernel
set_option maxRecDepth 100000 in
theorem dX12_field_57 : decode cX12_field 57 = .ok (.ladd, 1) := by decide +kernel
set_option maxRecDepth 100000 in
theorem dX12_field_58 : decode cX12_field 58 = .ok (.putfield 603, 3) := by decide +kernel
set_option maxRecDepth 100000 in
theorem dX12_field_61 : decode cX12_field 61 = .ok (.aload 6, 2) := by decide +kernel
set_option maxRecDepth 100000 in
theorem dX12_field_63 : decode cX12_field 63 = .ok (.areturn, 1) := by decide +kernel
set_option maxRecDepth 100000 in
def bX12_field (G : xG) (fr lo : Nat) (x0 : Nat) (x1 : Int32) (x2 : Nat) (x3 : Nat) (x4 : Nat) (x5 : Int32) (h : xH) (Q : Outcome → xH → Prop) : Prop := tg h x3 = 14 ∧ tg h x0 = 13 ∧ 1 ≤ fr ∧ 16 ≤ lo ∧ xRr G YX12_define (fr - 1) (lo - 16) [rv x0, .int 4, .int x1, rv (fR h x3 3335)] h (fun x6 h5 => xext h h5 → tg h5 x6 = 24 ∧ (∀ h9 : xH, h9 = sR h5 x6 5890 x2 → 1 ≤ fr ∧ 16 ≤ lo ∧ xRj G YJ10_min_2 (fr - 1) (lo - 16) [.long (fJ h9 x3 3334), .long 1000000000] h9 (fun x16 h15 => xext h9 h15 → (∀ h20 : xH, h20 = sI h15 x6 5894 (Int64.toInt32 x16) → (∀ h23 : xH, h23 = sR h20 x6 5900 x4 → (∀ h26 : xH, h26 = sI h23 x6 5902 x5 → tg h26 x2 = 14 ∧ (∀ h33 : xH, h33 = sJ h26 x3 3334 ((fJ h26 x3 3334) + (fJ h26 x2 3334)) → Q (.returned (some (rv x6))) h33))))) (fun r h2 => Q (.threw r) h2))) (fun r h2 => Q (.threw r) h2)
set_option maxRecDepth 100000 in
theorem uX12_field {G : xG} {fr lo : Nat} {x0 : Nat} {x1 : Int32} {x2 : Nat} {x3 : Nat} {x4 : Nat} {x5 : Int32} {h : xH} {Q : Outcome → xH → Prop} (hq : bX12_field G fr lo x0 x1 x2 x3 x4 x5 h Q) : xP G YX12_field fr lo 0 [(0, rv x0), (1, .int x1), (2, rv x2), (3, rv x3), (4, rv x4), (5, .int x5)] [] h Q := by
  unfold bX12_field at hq
  refine x_aload_n 0 dX12_field_0 rfl ?_
  refine x_iconst (v := 4) dX12_field_1 (by decide) ?_
  refine x_iload_n 1 dX12_field_2 rfl ?_
  refine x_aload_n 3 dX12_field_3 rfl ?_
  obtain ⟨g1, hq⟩ := hq
  refine x_get (v := rv (fR h x3 3335)) fdX12_852 dX12_field_4 g1 rfl ?_
  obtain ⟨g2, hq⟩ := hq
  obtain ⟨g3, g4, hq⟩ := hq
  refine x_callV (Yc := YX12_define) (as := [.int 4, .int x1, rv (fR h x3 3335)]) (st := []) q4110 mvX12_define g2 rfl dX12_field_7 (xle (xal1 (rv_cat _) (xal1 rfl (xal1 rfl (xal1 (rv_cat _) xal0)))) (by decide)) (xfr g3) (xlo xsw0 (by decide) g4) (xKr hq (fun x6 h5 hq e7 => ?_) (fun _ _ q _ => q))
  replace hq := hq e7
  refine x_astore (lv' := [(6, rv x6), (0, rv x0), (1, .int x1), (2, rv x2), (3, rv x3), (4, rv x4), (5, .int x5)]) dX12_field_10 (by decide) rfl ?_
  refine x_aload 0 dX12_field_12 rfl ?_
  refine x_aload_n 3 dX12_field_14 rfl ?_
  obtain ⟨g8, hq⟩ := hq
  obtain ⟨h9, e10⟩ : ∃ y, y = sR h5 x6 5890 x2 := ⟨_, rfl⟩
  replace hq := hq h9 e10
  refine x_putR fdX12_612 xty_O dX12_field_15 g8 (Or.inl (by rw [g8]; rfl)) rfl e10 ?_
  refine x_aload 0 dX12_field_18 rfl ?_
  refine x_aload_n 4 dX12_field_20 rfl ?_
  have t11 : tg h5 x3 = 14 := e7.tg g1 (by decide)
  have t12 : tg h9 x3 = 14 := by rw [e10]; exact t11
  refine x_get (v := .long (fJ h9 x3 3334)) fdX12_603 dX12_field_21 t12 rfl ?_
  refine x_ldc2 (v := 1000000000) q4243 dX12_field_24 ?_
  obtain ⟨g13, g14, hq⟩ := hq
  refine x_callS (Yc := YJ10_min_2) (as := [.long (fJ h9 x3 3334), .long 1000000000]) (st := [rv x6]) q4244 msJ10_min_2 rfl dX12_field_27 (xle (xal2 rfl (xal2 rfl xal0)) (by decide)) (xfr g13) (xlo (xsw1 (rv_cat _) xsw0) (by decide) g14) (xKj hq (fun x16 h15 hq e17 => ?_) (fun _ _ q _ => q))
  replace hq := hq e17
  refine x_l2i dX12_field_30 ?_
  have t18 : tg h9 x6 = 24 := by rw [e10]; exact g8
  have t19 : tg h15 x6 = 24 := e17.tg t18 (by decide)
  obtain ⟨h20, e21⟩ : ∃ y, y = sI h15 x6 5894 (Int64.toInt32 x16) := ⟨_, rfl⟩
  replace hq := hq h20 e21
  refine x_putI fdX12_713 xty_I1 dX12_field_31 t19 (Or.inl (by rw [t19]; rfl)) xnI rfl e21 ?_
  refine x_aload 0 dX12_field_34 rfl ?_
  refine x_aload 5 dX12_field_36 rfl ?_
  have t22 : tg h20 x6 = 24 := by rw [e21]; exact t19
  obtain ⟨h23, e24⟩ : ∃ y, y = sR h20 x6 5900 x4 := ⟨_, rfl⟩
  replace hq := hq h23 e24
  refine x_putR fdX12_893 xty_O dX12_field_38 t22 (Or.inl (by rw [t22]; rfl)) rfl e24 ?_
  refine x_aload 0 dX12_field_41 rfl ?_
  refine x_iload 6 dX12_field_43 rfl ?_
  have t25 : tg h23 x6 = 24 := by rw [e24]; exact t22
  obtain ⟨h26, e27⟩ : ∃ y, y = sI h23 x6 5902 x5 := ⟨_, rfl⟩
  replace hq := hq h26 e27
  refine x_putI fdX12_897 xty_I1 dX12_field_45 t25 (Or.inl (by rw [t25]; rfl)) xnI rfl e27 ?_
  refine x_aload_n 4 dX12_field_48 rfl ?_
  refine x_dup dX12_field_49 (rv_cat _) ?_
  have t28 : tg h15 x3 = 14 := e17.tg t12 (by decide)
  have t29 : tg h20 x3 = 14 := by rw [e21]; exact t28
  have t30 : tg h23 x3 = 14 := by rw [e24]; exact t29
  have t31 : tg h26 x3 = 14 := by rw [e27]; exact t30
  refine x_get (v := .long (fJ h26 x3 3334)) fdX12_603 dX12_field_50 t31 rfl ?_
  refine x_aload_n 3 dX12_field_53 rfl ?_
  obtain ⟨g32, hq⟩ := hq
  refine x_get (v := .long (fJ h26 x2 3334)) fdX12_603 dX12_field_54 g32 rfl ?_
  refine x_ladd dX12_field_57 ?_
  obtain ⟨h33, e34⟩ : ∃ y, y = sJ h26 x3 3334 ((fJ h26 x3 3334) + (fJ h26 x2 3334)) := ⟨_, rfl⟩
  replace hq := hq h33 e34
  refine x_putJ fdX12_603 dX12_field_58 t31 (Or.inl (by rw [t31]; rfl)) rfl e34 ?_
  refine x_aload 0 dX12_field_61 rfl ?_
  exact x_aret rfl xty_O dX12_field_63 hq
theorem rX12_field {G : xG} {fr lo : Nat} {x0 : Nat} {x1 : Int32} {x2 : Nat} {x3 : Nat} {x4 : Nat} {x5 : Int32} {h : xH} {Q : Outcome → xH → Prop} (hq : bX12_field G fr lo x0 x1 x2 x3 x4 x5 h Q) : xR G YX12_field fr lo [rv x0, .int x1, rv x2, rv x3, rv x4, .int x5] h Q := by
  show xP _ _ _ _ _ (lv_args 0 _) _ _ _
  rw [show lv_args 0 [rv x0, .int x1, rv x2, rv x3, rv x4, .int x5] = [(0, rv x0), (1, .int x1), (2, rv x2), (3, rv x3), (4, rv x4), (5, .int x5)] from (xla1 (rv_cat _) (xla1 rfl (xla1 (rv_cat _) (xla1 (rv_cat _) (xla1 (rv_cat _) (xla1 rfl xla0))))))]
  exact uX12_field hq
set_option maxRecDepth 100000 in
theorem dX12_checkHead_0 : decode cX12_checkHead 0 = .ok (.iconst 0, 1) := by decide +kernel
set_option maxRecDepth 100000 in
theorem dX12_checkHead_1 : decode cX12_checkHead 1 = .ok (.istore_n 2, 1) := by decide +kernel
set_option maxRecDepth 100000 in
theorem dX12_checkHead_2 : decode cX12_checkHead 2 = .ok (.aload_n 0, 1) := by decide +kernel
set_option maxRecDepth 100000 in
theorem dX12_checkHead_3 : decode cX12_checkHead 3 = .ok (.getfield 73, 3) := by decide +kernel
set_option maxRecDepth 100000 in
theorem dX12_checkHead_6 : decode cX12_checkHead 6 = .ok (.iload_n 1, 1) := by decide +kernel
set_option maxRecDepth 100000 in
theorem dX12_checkHead_7 : decode cX12_checkHead 7 = .ok (.iaload, 1) := by decide +kernel
set_option maxRecDepth 100000 in
theorem dX12_checkHead_8 : decode cX12_checkHead 8 = .ok (.istore_n 3, 1) := by decide +kernel
set_option maxRecDepth 100000 in
theorem dX12_checkHead_9 : decode cX12_checkHead 9 = .ok (.iload_n 3, 1) := by decide +kernel
set_option maxRecDepth 100000 in
theorem dX12_checkHead_10 : decode cX12_checkHead 10 = .ok (.iconst (-1), 1) := by decide +kernel
set_option maxRecDepth 100000 in
theorem dX12_checkHead_11 : decode cX12_checkHead 11 = .ok (.if_icmp .eq 104, 3) := by decide +kernel
set_option maxRecDepth 100000 in
theorem dX12_checkHead_14 : decode cX12_checkHead 14 = .ok (.aload_n 0, 1) := by decide +kernel
set_option maxRecDepth 100000 in
theorem dX12_checkHead_15 : decode cX12_checkHead 15 = .ok (.getfield 147, 3) := by decide +kernel
set_option maxRecDepth 100000 in
theorem dX12_checkHead_18 : decode cX12_checkHead 18 = .ok (.iload_n 2, 1) := by decide +kernel
set_option maxRecDepth 100000 in
theorem dX12_checkHead_19 : decode cX12_checkHead 19 = .ok (.invokevirtual 556, 3) := by decide +kernel
set_option maxRecDepth 100000 in
theorem dX12_checkHead_22 : decode cX12_checkHead 22 = .ok (.checkcast 100, 3) := by decide +kernel
set_option maxRecDepth 100000 in
theorem dX12_checkHead_25 : decode cX12_checkHead 25 = .ok (.astore 4, 2) := by decide +kernel
set_option maxRecDepth 100000 in
theorem dX12_checkHead_27 : decode cX12_checkHead 27 = .ok (.aload 4, 2) := by decide +kernel
set_option maxRecDepth 100000 in
theorem dX12_checkHead_29 : decode cX12_checkHead 29 = .ok (.ifnonnull 73, 3) := by decide +kernel
set_option maxRecDepth 100000 in
theorem dX12_checkHead_32 : decode cX12_checkHead 32 = .ok (.aload_n 0, 1) := by decide +kernel
set_option maxRecDepth 100000 in
theorem dX12_checkHead_33 : decode cX12_checkHead 33 = .ok (.aload_n 0, 1) := by decide +kernel
set_option maxRecDepth 100000 in
theorem dX12_checkHead_34 : decode cX12_checkHead 34 = .ok (.invokevirtual 694, 3) := by decide +kernel
set_option maxRecDepth 100000 in
theorem dX12_checkHead_37 : decode cX12_checkHead 37 = .ok (.aload_n 0, 1) := by decide +kernel
set_option maxRecDepth 100000 in
theorem dX12_checkHead_38 : decode cX12_checkHead 38 = .ok (.getfield 32, 3) := by decide +kernel
set_option maxRecDepth 100000 in
theorem dX12_checkHead_41 : decode cX12_checkHead 41 = .ok (.aload_n 0, 1) := by decide +kernel
set_option maxRecDepth 100000 in
theorem dX12_checkHead_42 : decode cX12_checkHead 42 = .ok (.getfield 70, 3) := by decide +kernel
set_option maxRecDepth 100000 in
theorem dX12_checkHead_45 : decode cX12_checkHead 45 = .ok (.iload_n 3, 1) := by decide +kernel
set_option maxRecDepth 100000 in
theorem dX12_checkHead_46 : decode cX12_checkHead 46 = .ok (.iaload, 1) := by decide +kernel
set_option maxRecDepth 100000 in
theorem dX12_checkHead_47 : decode cX12_checkHead 47 = .ok (.iaload, 1) := by decide +kernel
set_option maxRecDepth 100000 in
theorem dX12_checkHead_48 : decode cX12_checkHead 48 = .ok (.invokevirtual 566, 3) := by decide +kernel
set_option maxRecDepth 100000 in
theorem dX12_checkHead_51 : decode cX12_checkHead 51 = .ok (.astore 4, 2) := by decide +kernel
set_option maxRecDepth 100000 in
theorem dX12_checkHead_53 : decode cX12_checkHead 53 = .ok (.aload 4, 2) := by decide +kernel
set_option maxRecDepth 100000 in
theorem dX12_checkHead_55 : decode cX12_checkHead 55 = .ok (.ifnull 24, 3) := by decide +kernel
set_option maxRecDepth 100000 in
theorem dX12_checkHead_58 : decode cX12_checkHead 58 = .ok (.aload 4, 2) := by decide +kernel
set_option maxRecDepth 100000 in
theorem dX12_checkHead_60 : decode cX12_checkHead 60 = .ok (.getfield 577, 3) := by decide +kernel
set_option maxRecDepth 100000 in
theorem dX12_checkHead_63 : decode cX12_checkHead 63 = .ok (.iconst 3, 1) := by decide +kernel
set_option maxRecDepth 100000 in
theorem dX12_checkHead_64 : decode cX12_checkHead 64 = .ok (.if_icmp .ne 15, 3) := by decide +kernel
set_option maxRecDepth 100000 in
theorem dX12_checkHead_67 : decode cX12_checkHead 67 = .ok (.aload 4, 2) := by decide +kernel
set_option maxRecDepth 100000 in
theorem dX12_checkHead_69 : decode cX12_checkHead 69 = .ok (.getfield 612, 3) := by decide +kernel
set_option maxRecDepth 100000 in
theorem dX12_checkHead_72 : decode cX12_checkHead 72 = .ok (.aload_n 0, 1) := by decide +kernel
set_option maxRecDepth 100000 in
theorem dX12_checkHead_73 : decode cX12_checkHead 73 = .ok (.getfield 122, 3) := by decide +kernel
set_option maxRecDepth 100000 in
theorem dX12_checkHead_76 : decode cX12_checkHead 76 = .ok (.if_acmp .eq 15, 3) := by decide +kernel
set_option maxRecDepth 100000 in
theorem dX12_checkHead_79 : decode cX12_checkHead 79 = .ok (.aload_n 0, 1) := by decide +kernel
set_option maxRecDepth 100000 in
theorem dX12_checkHead_80 : decode cX12_checkHead 80 = .ok (.bipush 6, 2) := by decide +kernel
set_option maxRecDepth 100000 in
theorem dX12_checkHead_82 : decode cX12_checkHead 82 = .ok (.aload_n 0, 1) := by decide +kernel
set_option maxRecDepth 100000 in
theorem dX12_checkHead_83 : decode cX12_checkHead 83 = .ok (.getfield 70, 3) := by decide +kernel
set_option maxRecDepth 100000 in
theorem dX12_checkHead_86 : decode cX12_checkHead 86 = .ok (.iload_n 3, 1) := by decide +kernel
set_option maxRecDepth 100000 in
theorem dX12_checkHead_87 : decode cX12_checkHead 87 = .ok (.iaload, 1) := by decide +kernel
set_option maxRecDepth 100000 in
theorem dX12_checkHead_88 : decode cX12_checkHead 88 = .ok (.invokevirtual 570, 3) := by decide +kernel
set_option maxRecDepth 100000 in
theorem dX12_checkHead_91 : decode cX12_checkHead 91 = .ok (.aload_n 0, 1) := by decide +kernel
set_option maxRecDepth 100000 in
theorem dX12_checkHead_92 : decode cX12_checkHead 92 = .ok (.getfield 147, 3) := by decide +kernel
set_option maxRecDepth 100000 in
theorem dX12_checkHead_95 : decode cX12_checkHead 95 = .ok (.iload_n 2, 1) := by decide +kernel
set_option maxRecDepth 100000 in
theorem dX12_checkHead_96 : decode cX12_checkHead 96 = .ok (.aload 4, 2) := by decide +kernel
set_option maxRecDepth 100000 in
theorem dX12_checkHead_98 : decode cX12_checkHead 98 = .ok (.invokevirtual 820, 3) := by decide +kernel
set_option maxRecDepth 100000 in
theorem dX12_checkHead_101 : decode cX12_checkHead 101 = .ok (.pop, 1) := by decide +kernel
set_option maxRecDepth 100000 in
theorem dX12_checkHead_102 : decode cX12_checkHead 102 = .ok (.iinc 2 1, 3) := by decide +kernel
set_option maxRecDepth 100000 in
theorem dX12_checkHead_105 : decode cX12_checkHead 105 = .ok (.aload_n 0, 1) := by decide +kernel
set_option maxRecDepth 100000 in
theorem dX12_checkHead_106 : decode cX12_checkHead 106 = .ok (.getfield 79, 3) := by decide +kernel
set_option maxRecDepth 100000 in
theorem dX12_checkHead_109 : decode cX12_checkHead 109 = .ok (.iload_n 3, 1) := by decide +kernel
set_option maxRecDepth 100000 in
theorem dX12_checkHead_110 : decode cX12_checkHead 110 = .ok (.iaload, 1) := by decide +kernel
set_option maxRecDepth 100000 in
theorem dX12_checkHead_111 : decode cX12_checkHead 111 = .ok (.istore_n 3, 1) := by decide +kernel
set_option maxRecDepth 100000 in
theorem dX12_checkHead_112 : decode cX12_checkHead 112 = .ok (.goto (-103), 3) := by decide +kernel
set_option maxRecDepth 100000 in
theorem dX12_checkHead_115 : decode cX12_checkHead 115 = .ok (.return_, 1) := by decide +kernel
def lX12_checkHead_9 (G : xG) (fr lo : Nat) (x0 : Nat) (x2 : Int32) (x3 : Int32) (h : xH) (Q : Outcome → xH → Prop) : Prop := xP G YX12_checkHead fr lo 9 [(0, rv x0), (2, .int x2), (3, .int x3)] [] h Q
set_option maxRecDepth 100000 in
def bX12_checkHead_102 (G : xG) (fr lo : Nat) (x0 : Nat) (x2 : Int32) (x3 : Int32) (h : xH) (Q : Outcome → xH → Prop) : Prop := tg h x0 = 13 ∧ tg h (fR h x0 3105) = 100 ∧ vp_in x3 (ln h (fR h x0 3105)) ∧ lX12_checkHead_9 G fr lo x0 (x2 + 1) (aI h (fR h x0 3105) (Int32.toNatClampNeg x3)) h Q
set_option maxRecDepth 100000 in
theorem uX12_checkHead_102 {G : xG} {fr lo : Nat} {x0 : Nat} {x2 : Int32} {x3 : Int32} {h : xH} {Q : Outcome → xH → Prop} (hq : bX12_checkHead_102 G fr lo x0 x2 x3 h Q) : xP G YX12_checkHead fr lo 102 [(0, rv x0), (2, .int x2), (3, .int x3)] [] h Q := by
  unfold bX12_checkHead_102 at hq
  refine x_iinc (lv' := [(2, .int (x2 + 1)), (0, rv x0), (3, .int x3)]) 1 dX12_checkHead_102 rfl (by decide) rfl ?_
  refine x_aload_n 1 dX12_checkHead_105 rfl ?_
  obtain ⟨g1, hq⟩ := hq
  refine x_get (v := rv (fR h x0 3105)) fdX12_79 dX12_checkHead_106 g1 rfl ?_
  refine x_iload_n 2 dX12_checkHead_109 rfl ?_
  obtain ⟨g2, hq⟩ := hq
  obtain ⟨i3, hq⟩ := hq
  refine x_iald 0 (Or.inl rfl) g2 i3 dX12_checkHead_110 ?_
  refine x_istore_n (lv' := [(3, .int (aI h (fR h x0 3105) (Int32.toNatClampNeg x3))), (2, .int (x2 + 1)), (0, rv x0)]) dX12_checkHead_111 (by decide) rfl ?_
  refine x_goto (tgt := 9) dX12_checkHead_112 (by decide) ?_
  refine xP.pick (lv' := [(0, rv x0), (2, .int (x2 + 1)), (3, .int (aI h (fR h x0 3105) (Int32.toNatClampNeg x3)))]) [2, 1, 0] rfl ?_
  exact hq
set_option maxRecDepth 100000 in
def bX12_checkHead_91 (G : xG) (fr lo : Nat) (x0 : Nat) (x2 : Int32) (x3 : Int32) (x4 : Nat) (h : xH) (Q : Outcome → xH → Prop) : Prop := tg h x0 = 13 ∧ tg h (fR h x0 3128) = 29 ∧ 1 ≤ fr ∧ 15 ≤ lo ∧ xRr G YJ2_set (fr - 1) (lo - 15) [rv (fR h x0 3128), .int x2, rv x4] h (fun x6 h5 => xext h h5 → bX12_checkHead_102 G fr lo x0 x2 x3 h5 Q) (fun r h2 => Q (.threw r) h2)
set_option maxRecDepth 100000 in
theorem uX12_checkHead_91 {G : xG} {fr lo : Nat} {x0 : Nat} {x2 : Int32} {x3 : Int32} {x4 : Nat} {h : xH} {Q : Outcome → xH → Prop} (hq : bX12_checkHead_91 G fr lo x0 x2 x3 x4 h Q) : xP G YX12_checkHead fr lo 91 [(0, rv x0), (2, .int x2), (3, .int x3), (4, rv x4)] [] h Q := by
  unfold bX12_checkHead_91 at hq
  refine x_aload_n 0 dX12_checkHead_91 rfl ?_
  obtain ⟨g1, hq⟩ := hq
  refine x_get (v := rv (fR h x0 3128)) fdX12_147 dX12_checkHead_92 g1 rfl ?_
  refine x_iload_n 1 dX12_checkHead_95 rfl ?_
  refine x_aload 3 dX12_checkHead_96 rfl ?_
  obtain ⟨g2, hq⟩ := hq
  obtain ⟨g3, g4, hq⟩ := hq
  refine x_callV (Yc := YJ2_set) (as := [.int x2, rv x4]) (st := []) q4267 mvJ2_set g2 rfl dX12_checkHead_98 (xle (xal1 (rv_cat _) (xal1 rfl (xal1 (rv_cat _) xal0))) (by decide)) (xfr g3) (xlo xsw0 (by decide) g4) (xKr hq (fun x6 h5 hq e7 => ?_) (fun _ _ q _ => q))
  replace hq := hq e7
  refine x_pop dX12_checkHead_101 (rv_cat _) ?_
  refine xP.pick (lv' := [(0, rv x0), (2, .int x2), (3, .int x3)]) [0, 1, 2] rfl ?_
  exact uX12_checkHead_102 hq
set_option maxRecDepth 100000 in
def bX12_checkHead_79 (G : xG) (fr lo : Nat) (x0 : Nat) (x2 : Int32) (x3 : Int32) (x4 : Nat) (h : xH) (Q : Outcome → xH → Prop) : Prop := tg h x0 = 13 ∧ tg h (fR h x0 3102) = 100 ∧ vp_in x3 (ln h (fR h x0 3102)) ∧ 1 ≤ fr ∧ 14 ≤ lo ∧ xRv G YX12_refuse (fr - 1) (lo - 14) [rv x0, .int 6, .int (aI h (fR h x0 3102) (Int32.toNatClampNeg x3))] h (fun h6 => xext h h6 → bX12_checkHead_91 G fr lo x0 x2 x3 x4 h6 Q) (fun r h2 => Q (.threw r) h2)
set_option maxRecDepth 100000 in
theorem uX12_checkHead_79 {G : xG} {fr lo : Nat} {x0 : Nat} {x2 : Int32} {x3 : Int32} {x4 : Nat} {h : xH} {Q : Outcome → xH → Prop} (hq : bX12_checkHead_79 G fr lo x0 x2 x3 x4 h Q) : xP G YX12_checkHead fr lo 79 [(0, rv x0), (2, .int x2), (3, .int x3), (4, rv x4)] [] h Q := by
  unfold bX12_checkHead_79 at hq
  refine x_aload_n 0 dX12_checkHead_79 rfl ?_
  refine x_bipush (v := 6) dX12_checkHead_80 (by decide) ?_
  refine x_aload_n 0 dX12_checkHead_82 rfl ?_
  obtain ⟨g1, hq⟩ := hq
  refine x_get (v := rv (fR h x0 3102)) fdX12_70 dX12_checkHead_83 g1 rfl ?_
  refine x_iload_n 2 dX12_checkHead_86 rfl ?_
  obtain ⟨g2, hq⟩ := hq
  obtain ⟨i3, hq⟩ := hq
  refine x_iald 0 (Or.inl rfl) g2 i3 dX12_checkHead_87 ?_
  obtain ⟨g4, g5, hq⟩ := hq
  refine x_callV (Yc := YX12_refuse) (as := [.int 6, .int (aI h (fR h x0 3102) (Int32.toNatClampNeg x3))]) (st := []) q4095 mvX12_refuse g1 rfl dX12_checkHead_88 (xle (xal1 (rv_cat _) (xal1 rfl (xal1 rfl xal0))) (by decide)) (xfr g4) (xlo xsw0 (by decide) g5) (xKv hq (fun h6 hq e8 => ?_) (fun _ _ q _ => q))
  replace hq := hq e8
  exact uX12_checkHead_91 hq
set_option maxRecDepth 100000 in
def bX12_checkHead_9 (G : xG) (fr lo : Nat) (x0 : Nat) (x2 : Int32) (x3 : Int32) (h : xH) (Q : Outcome → xH → Prop) : Prop := ((x3 = (-1) → Q (.returned none) h) ∧ (¬ x3 = (-1) → tg h x0 = 13 ∧ tg h (fR h x0 3128) = 29 ∧ 1 ≤ fr ∧ 13 ≤ lo ∧ xRr G YJ2_get (fr - 1) (lo - 13) [rv (fR h x0 3128), .int x2] h (fun x7 h6 => xext h h6 → tg h6 x7 = 24 ∧ ((¬ x7 = 0 → bX12_checkHead_102 G fr lo x0 x2 x3 h6 Q) ∧ (x7 = 0 → 1 ≤ fr ∧ 13 ≤ lo ∧ xRr G YX12_here (fr - 1) (lo - 13) [rv x0] h6 (fun x15 h14 => xext h6 h14 → tg h14 (fR h14 x0 3102) = 100 ∧ vp_in x3 (ln h14 (fR h14 x0 3102)) ∧ tg h14 (fR h14 x0 3084) = 100 ∧ vp_in (aI h14 (fR h14 x0 3102) (Int32.toNatClampNeg x3)) (ln h14 (fR h14 x0 3084)) ∧ 1 ≤ fr ∧ 15 ≤ lo ∧ xRr G YX12_inRegion (fr - 1) (lo - 15) [rv x0, rv x15, .int (aI h14 (fR h14 x0 3084) (Int32.toNatClampNeg (aI h14 (fR h14 x0 3102) (Int32.toNatClampNeg x3))))] h14 (fun x25 h24 => xext h14 h24 → ((x25 = 0 → bX12_checkHead_79 G fr lo x0 x2 x3 x25 h24 Q) ∧ (¬ x25 = 0 → tg h24 x25 = 24 ∧ ((¬ (fI h24 x25 5888) = 3 → bX12_checkHead_79 G fr lo x0 x2 x3 x25 h24 Q) ∧ ((fI h24 x25 5888) = 3 → (((fR h24 x25 5890) = (fR h24 x0 3119) → bX12_checkHead_91 G fr lo x0 x2 x3 x25 h24 Q) ∧ (¬ (fR h24 x25 5890) = (fR h24 x0 3119) → bX12_checkHead_79 G fr lo x0 x2 x3 x25 h24 Q))))))) (fun r h2 => Q (.threw r) h2)) (fun r h2 => Q (.threw r) h2)))) (fun r h2 => Q (.threw r) h2)))
set_option maxRecDepth 100000 in
theorem uX12_checkHead_9 {G : xG} {fr lo : Nat} {x0 : Nat} {x2 : Int32} {x3 : Int32} {h : xH} {Q : Outcome → xH → Prop} (hq : bX12_checkHead_9 G fr lo x0 x2 x3 h Q) : xP G YX12_checkHead fr lo 9 [(0, rv x0), (2, .int x2), (3, .int x3)] [] h Q := by
  unfold bX12_checkHead_9 at hq
  refine x_iload_n 2 dX12_checkHead_9 rfl ?_
  refine x_iconst (v := (-1)) dX12_checkHead_10 (by decide) ?_
  refine x_icmp_eq (tgt := 115) dX12_checkHead_11 (by decide) (fun c1 => ?_) (fun c1 => ?_)
  · replace hq := hq.1 c1
    exact x_vret rfl dX12_checkHead_115 hq
  · replace hq := hq.2 c1
    refine x_aload_n 0 dX12_checkHead_14 rfl ?_
    obtain ⟨g2, hq⟩ := hq
    refine x_get (v := rv (fR h x0 3128)) fdX12_147 dX12_checkHead_15 g2 rfl ?_
    refine x_iload_n 1 dX12_checkHead_18 rfl ?_
    obtain ⟨g3, hq⟩ := hq
    obtain ⟨g4, g5, hq⟩ := hq
    refine x_callV (Yc := YJ2_get) (as := [.int x2]) (st := []) q4109 mvJ2_get g3 rfl dX12_checkHead_19 (xle (xal1 (rv_cat _) (xal1 rfl xal0)) (by decide)) (xfr g4) (xlo xsw0 (by decide) g5) (xKr hq (fun x7 h6 hq e8 => ?_) (fun _ _ q _ => q))
    replace hq := hq e8
    obtain ⟨g9, hq⟩ := hq
    refine x_cast (ci := 23) (by decide) rfl q3206 g9 dX12_checkHead_22 ?_
    refine x_astore (lv' := [(4, rv x7), (0, rv x0), (2, .int x2), (3, .int x3)]) dX12_checkHead_25 (by decide) rfl ?_
    refine x_aload 0 dX12_checkHead_27 rfl ?_
    refine x_ifnonnull (tgt := 102) dX12_checkHead_29 (by decide) (fun c10 => ?_) (fun c10 => ?_)
    · replace hq := hq.1 c10
      refine xP.pick (lv' := [(0, rv x0), (2, .int x2), (3, .int x3)]) [1, 2, 3] rfl ?_
      exact uX12_checkHead_102 hq
    · replace hq := hq.2 c10
      refine x_aload_n 1 dX12_checkHead_32 rfl ?_
      refine x_aload_n 1 dX12_checkHead_33 rfl ?_
      have t11 : tg h6 x0 = 13 := e8.tg g2 (by decide)
      obtain ⟨g12, g13, hq⟩ := hq
      refine x_callV (Yc := YX12_here) (as := []) (st := [rv x0]) q4105 mvX12_here t11 rfl dX12_checkHead_34 (xle (xal1 (rv_cat _) xal0) (by decide)) (xfr g12) (xlo (xsw1 (rv_cat _) xsw0) (by decide) g13) (xKr hq (fun x15 h14 hq e16 => ?_) (fun _ _ q _ => q))
      replace hq := hq e16
      refine x_aload_n 1 dX12_checkHead_37 rfl ?_
      have t17 : tg h14 x0 = 13 := e16.tg t11 (by decide)
      refine x_get (v := rv (fR h14 x0 3084)) fdX12_32 dX12_checkHead_38 t17 rfl ?_
      refine x_aload_n 1 dX12_checkHead_41 rfl ?_
      refine x_get (v := rv (fR h14 x0 3102)) fdX12_70 dX12_checkHead_42 t17 rfl ?_
      refine x_iload_n 3 dX12_checkHead_45 rfl ?_
      obtain ⟨g18, hq⟩ := hq
      obtain ⟨i19, hq⟩ := hq
      refine x_iald 0 (Or.inl rfl) g18 i19 dX12_checkHead_46 ?_
      obtain ⟨g20, hq⟩ := hq
      obtain ⟨i21, hq⟩ := hq
      refine x_iald 0 (Or.inl rfl) g20 i21 dX12_checkHead_47 ?_
      obtain ⟨g22, g23, hq⟩ := hq
      refine x_callV (Yc := YX12_inRegion) (as := [rv x15, .int (aI h14 (fR h14 x0 3084) (Int32.toNatClampNeg (aI h14 (fR h14 x0 3102) (Int32.toNatClampNeg x3))))]) (st := []) q4114 mvX12_inRegion t17 rfl dX12_checkHead_48 (xle (xal1 (rv_cat _) (xal1 (rv_cat _) (xal1 rfl xal0))) (by decide)) (xfr g22) (xlo xsw0 (by decide) g23) (xKr hq (fun x25 h24 hq e26 => ?_) (fun _ _ q _ => q))
      replace hq := hq e26
      refine x_astore (lv' := [(4, rv x25), (0, rv x0), (2, .int x2), (3, .int x3)]) dX12_checkHead_51 (by decide) rfl ?_
      refine x_aload 0 dX12_checkHead_53 rfl ?_
      refine x_ifnull (tgt := 79) dX12_checkHead_55 (by decide) (fun c27 => ?_) (fun c27 => ?_)
      · replace hq := hq.1 c27
        refine xP.pick (lv' := [(0, rv x0), (2, .int x2), (3, .int x3), (4, rv x25)]) [1, 2, 3, 0] rfl ?_
        exact uX12_checkHead_79 hq
      · replace hq := hq.2 c27
        refine x_aload 0 dX12_checkHead_58 rfl ?_
        obtain ⟨g28, hq⟩ := hq
        refine x_get (v := .int (fI h24 x25 5888)) fdX12_577 dX12_checkHead_60 g28 rfl ?_
        refine x_iconst (v := 3) dX12_checkHead_63 (by decide) ?_
        refine x_icmp_ne (tgt := 79) dX12_checkHead_64 (by decide) (fun c29 => ?_) (fun c29 => ?_)
        · replace hq := hq.1 c29
          refine xP.pick (lv' := [(0, rv x0), (2, .int x2), (3, .int x3), (4, rv x25)]) [1, 2, 3, 0] rfl ?_
          exact uX12_checkHead_79 hq
        · replace hq := hq.2 c29
          refine x_aload 0 dX12_checkHead_67 rfl ?_
          refine x_get (v := rv (fR h24 x25 5890)) fdX12_612 dX12_checkHead_69 g28 rfl ?_
          refine x_aload_n 1 dX12_checkHead_72 rfl ?_
          have t30 : tg h24 x0 = 13 := e26.tg t17 (by decide)
          refine x_get (v := rv (fR h24 x0 3119)) fdX12_122 dX12_checkHead_73 t30 rfl ?_
          refine x_acmp_eq (tgt := 91) dX12_checkHead_76 (by decide) (fun c31 => ?_) (fun c31 => ?_)
          · replace hq := hq.1 c31
            refine xP.pick (lv' := [(0, rv x0), (2, .int x2), (3, .int x3), (4, rv x25)]) [1, 2, 3, 0] rfl ?_
            exact uX12_checkHead_91 hq
          · replace hq := hq.2 c31
            refine xP.pick (lv' := [(0, rv x0), (2, .int x2), (3, .int x3), (4, rv x25)]) [1, 2, 3, 0] rfl ?_
            exact uX12_checkHead_79 hq
set_option maxRecDepth 100000 in
def bX12_checkHead (G : xG) (fr lo : Nat) (x0 : Nat) (x1 : Int32) (h : xH) (Q : Outcome → xH → Prop) : Prop := tg h x0 = 13 ∧ tg h (fR h x0 3103) = 100 ∧ vp_in x1 (ln h (fR h x0 3103)) ∧ lX12_checkHead_9 G fr lo x0 0 (aI h (fR h x0 3103) (Int32.toNatClampNeg x1)) h Q
set_option maxRecDepth 100000 in
theorem uX12_checkHead {G : xG} {fr lo : Nat} {x0 : Nat} {x1 : Int32} {h : xH} {Q : Outcome → xH → Prop} (hq : bX12_checkHead G fr lo x0 x1 h Q) : xP G YX12_checkHead fr lo 0 [(0, rv x0), (1, .int x1)] [] h Q := by
  unfold bX12_checkHead at hq
  refine x_iconst (v := 0) dX12_checkHead_0 (by decide) ?_
  refine x_istore_n (lv' := [(2, .int 0), (0, rv x0), (1, .int x1)]) dX12_checkHead_1 (by decide) rfl ?_
  refine x_aload_n 1 dX12_checkHead_2 rfl ?_
  obtain ⟨g1, hq⟩ := hq
  refine x_get (v := rv (fR h x0 3103)) fdX12_73 dX12_checkHead_3 g1 rfl ?_
  refine x_iload_n 2 dX12_checkHead_6 rfl ?_
  obtain ⟨g2, hq⟩ := hq
  obtain ⟨i3, hq⟩ := hq
  refine x_iald 0 (Or.inl rfl) g2 i3 dX12_checkHead_7 ?_
  refine x_istore_n (lv' := [(3, .int (aI h (fR h x0 3103) (Int32.toNatClampNeg x1))), (2, .int 0), (0, rv x0), (1, .int x1)]) dX12_checkHead_8 (by decide) rfl ?_
  refine xP.pick (lv' := [(0, rv x0), (2, .int 0), (3, .int (aI h (fR h x0 3103) (Int32.toNatClampNeg x1)))]) [2, 1, 0] rfl ?_
  exact hq
theorem rX12_checkHead {G : xG} {fr lo : Nat} {x0 : Nat} {x1 : Int32} {h : xH} {Q : Outcome → xH → Prop} (hq : bX12_checkHead G fr lo x0 x1 h Q) : xR G YX12_checkHead fr lo [rv x0, .int x1] h Q := by
  show xP _ _ _ _ _ (lv_args 0 _) _ _ _
  rw [show lv_args 0 [rv x0, .int x1] = [(0, rv x0), (1, .int x1)] from (xla1 (rv_cat _) (xla1 rfl xla0))]
  exact uX12_checkHead hq
