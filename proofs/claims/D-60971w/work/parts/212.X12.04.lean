/-! PascalHouseModel, walked (5) -/
set_option maxRecDepth 100000 in
theorem dX12_checkRoutine_0 : decode cX12_checkRoutine 0 = .ok (.aload_n 0, 1) := by decide +kernel
set_option maxRecDepth 100000 in
theorem dX12_checkRoutine_1 : decode cX12_checkRoutine 1 = .ok (.getfield 70, 3) := by decide +kernel
set_option maxRecDepth 100000 in
theorem dX12_checkRoutine_4 : decode cX12_checkRoutine 4 = .ok (.iload_n 1, 1) := by decide +kernel
set_option maxRecDepth 100000 in
theorem dX12_checkRoutine_5 : decode cX12_checkRoutine 5 = .ok (.iaload, 1) := by decide +kernel
set_option maxRecDepth 100000 in
theorem dX12_checkRoutine_6 : decode cX12_checkRoutine 6 = .ok (.istore_n 2, 1) := by decide +kernel
set_option maxRecDepth 100000 in
theorem dX12_checkRoutine_7 : decode cX12_checkRoutine 7 = .ok (.aload_n 0, 1) := by decide +kernel
set_option maxRecDepth 100000 in
theorem dX12_checkRoutine_8 : decode cX12_checkRoutine 8 = .ok (.getfield 82, 3) := by decide +kernel
set_option maxRecDepth 100000 in
theorem dX12_checkRoutine_11 : decode cX12_checkRoutine 11 = .ok (.iload_n 1, 1) := by decide +kernel
set_option maxRecDepth 100000 in
theorem dX12_checkRoutine_12 : decode cX12_checkRoutine 12 = .ok (.iaload, 1) := by decide +kernel
set_option maxRecDepth 100000 in
theorem dX12_checkRoutine_13 : decode cX12_checkRoutine 13 = .ok (.iconst 1, 1) := by decide +kernel
set_option maxRecDepth 100000 in
theorem dX12_checkRoutine_14 : decode cX12_checkRoutine 14 = .ok (.if_icmp .ne 7, 3) := by decide +kernel
set_option maxRecDepth 100000 in
theorem dX12_checkRoutine_17 : decode cX12_checkRoutine 17 = .ok (.iconst 1, 1) := by decide +kernel
set_option maxRecDepth 100000 in
theorem dX12_checkRoutine_18 : decode cX12_checkRoutine 18 = .ok (.goto 4, 3) := by decide +kernel
set_option maxRecDepth 100000 in
theorem dX12_checkRoutine_21 : decode cX12_checkRoutine 21 = .ok (.iconst 0, 1) := by decide +kernel
set_option maxRecDepth 100000 in
theorem dX12_checkRoutine_22 : decode cX12_checkRoutine 22 = .ok (.istore_n 3, 1) := by decide +kernel
set_option maxRecDepth 100000 in
theorem dX12_checkRoutine_23 : decode cX12_checkRoutine 23 = .ok (.aload_n 0, 1) := by decide +kernel
set_option maxRecDepth 100000 in
theorem dX12_checkRoutine_24 : decode cX12_checkRoutine 24 = .ok (.getfield 73, 3) := by decide +kernel
set_option maxRecDepth 100000 in
theorem dX12_checkRoutine_27 : decode cX12_checkRoutine 27 = .ok (.iload_n 1, 1) := by decide +kernel
set_option maxRecDepth 100000 in
theorem dX12_checkRoutine_28 : decode cX12_checkRoutine 28 = .ok (.iaload, 1) := by decide +kernel
set_option maxRecDepth 100000 in
theorem dX12_checkRoutine_29 : decode cX12_checkRoutine 29 = .ok (.istore 4, 2) := by decide +kernel
set_option maxRecDepth 100000 in
theorem dX12_checkRoutine_31 : decode cX12_checkRoutine 31 = .ok (.aload_n 0, 1) := by decide +kernel
set_option maxRecDepth 100000 in
theorem dX12_checkRoutine_32 : decode cX12_checkRoutine 32 = .ok (.iload_n 1, 1) := by decide +kernel
set_option maxRecDepth 100000 in
theorem dX12_checkRoutine_33 : decode cX12_checkRoutine 33 = .ok (.iconst 1, 1) := by decide +kernel
set_option maxRecDepth 100000 in
theorem dX12_checkRoutine_34 : decode cX12_checkRoutine 34 = .ok (.invokevirtual 734, 3) := by decide +kernel
set_option maxRecDepth 100000 in
theorem dX12_checkRoutine_37 : decode cX12_checkRoutine 37 = .ok (.istore 5, 2) := by decide +kernel
set_option maxRecDepth 100000 in
theorem dX12_checkRoutine_39 : decode cX12_checkRoutine 39 = .ok (.aload_n 0, 1) := by decide +kernel
set_option maxRecDepth 100000 in
theorem dX12_checkRoutine_40 : decode cX12_checkRoutine 40 = .ok (.iload_n 1, 1) := by decide +kernel
set_option maxRecDepth 100000 in
theorem dX12_checkRoutine_41 : decode cX12_checkRoutine 41 = .ok (.iconst 2, 1) := by decide +kernel
set_option maxRecDepth 100000 in
theorem dX12_checkRoutine_42 : decode cX12_checkRoutine 42 = .ok (.invokevirtual 734, 3) := by decide +kernel
set_option maxRecDepth 100000 in
theorem dX12_checkRoutine_45 : decode cX12_checkRoutine 45 = .ok (.istore 6, 2) := by decide +kernel
set_option maxRecDepth 100000 in
theorem dX12_checkRoutine_47 : decode cX12_checkRoutine 47 = .ok (.aload_n 0, 1) := by decide +kernel
set_option maxRecDepth 100000 in
theorem dX12_checkRoutine_48 : decode cX12_checkRoutine 48 = .ok (.aload_n 0, 1) := by decide +kernel
set_option maxRecDepth 100000 in
theorem dX12_checkRoutine_49 : decode cX12_checkRoutine 49 = .ok (.invokevirtual 694, 3) := by decide +kernel
set_option maxRecDepth 100000 in
theorem dX12_checkRoutine_52 : decode cX12_checkRoutine 52 = .ok (.aload_n 0, 1) := by decide +kernel
set_option maxRecDepth 100000 in
theorem dX12_checkRoutine_53 : decode cX12_checkRoutine 53 = .ok (.getfield 32, 3) := by decide +kernel
set_option maxRecDepth 100000 in
theorem dX12_checkRoutine_56 : decode cX12_checkRoutine 56 = .ok (.iload_n 2, 1) := by decide +kernel
set_option maxRecDepth 100000 in
theorem dX12_checkRoutine_57 : decode cX12_checkRoutine 57 = .ok (.iaload, 1) := by decide +kernel
set_option maxRecDepth 100000 in
theorem dX12_checkRoutine_58 : decode cX12_checkRoutine 58 = .ok (.invokevirtual 566, 3) := by decide +kernel
set_option maxRecDepth 100000 in
theorem dX12_checkRoutine_61 : decode cX12_checkRoutine 61 = .ok (.astore 7, 2) := by decide +kernel
set_option maxRecDepth 100000 in
theorem dX12_checkRoutine_63 : decode cX12_checkRoutine 63 = .ok (.aload 7, 2) := by decide +kernel
set_option maxRecDepth 100000 in
theorem dX12_checkRoutine_65 : decode cX12_checkRoutine 65 = .ok (.ifnull 98, 3) := by decide +kernel
set_option maxRecDepth 100000 in
theorem dX12_checkRoutine_68 : decode cX12_checkRoutine 68 = .ok (.aload 7, 2) := by decide +kernel
set_option maxRecDepth 100000 in
theorem dX12_checkRoutine_70 : decode cX12_checkRoutine 70 = .ok (.getfield 577, 3) := by decide +kernel
set_option maxRecDepth 100000 in
theorem dX12_checkRoutine_73 : decode cX12_checkRoutine 73 = .ok (.iconst 5, 1) := by decide +kernel
set_option maxRecDepth 100000 in
theorem dX12_checkRoutine_74 : decode cX12_checkRoutine 74 = .ok (.if_icmp .ne 89, 3) := by decide +kernel
set_option maxRecDepth 100000 in
theorem dX12_checkRoutine_77 : decode cX12_checkRoutine 77 = .ok (.aload 7, 2) := by decide +kernel
set_option maxRecDepth 100000 in
theorem dX12_checkRoutine_79 : decode cX12_checkRoutine 79 = .ok (.getfield 796, 3) := by decide +kernel
set_option maxRecDepth 100000 in
theorem dX12_checkRoutine_82 : decode cX12_checkRoutine 82 = .ok (.ifCond .eq 81, 3) := by decide +kernel
set_option maxRecDepth 100000 in
theorem dX12_checkRoutine_85 : decode cX12_checkRoutine 85 = .ok (.aload 7, 2) := by decide +kernel
set_option maxRecDepth 100000 in
theorem dX12_checkRoutine_87 : decode cX12_checkRoutine 87 = .ok (.getfield 799, 3) := by decide +kernel
set_option maxRecDepth 100000 in
theorem dX12_checkRoutine_90 : decode cX12_checkRoutine 90 = .ok (.ifCond .ne 73, 3) := by decide +kernel
set_option maxRecDepth 100000 in
theorem dX12_checkRoutine_93 : decode cX12_checkRoutine 93 = .ok (.aload 7, 2) := by decide +kernel
set_option maxRecDepth 100000 in
theorem dX12_checkRoutine_95 : decode cX12_checkRoutine 95 = .ok (.getfield 635, 3) := by decide +kernel
set_option maxRecDepth 100000 in
theorem dX12_checkRoutine_98 : decode cX12_checkRoutine 98 = .ok (.iload_n 3, 1) := by decide +kernel
set_option maxRecDepth 100000 in
theorem dX12_checkRoutine_99 : decode cX12_checkRoutine 99 = .ok (.if_icmp .eq 10, 3) := by decide +kernel
set_option maxRecDepth 100000 in
theorem dX12_checkRoutine_102 : decode cX12_checkRoutine 102 = .ok (.aload_n 0, 1) := by decide +kernel
set_option maxRecDepth 100000 in
theorem dX12_checkRoutine_103 : decode cX12_checkRoutine 103 = .ok (.bipush 6, 2) := by decide +kernel
set_option maxRecDepth 100000 in
theorem dX12_checkRoutine_105 : decode cX12_checkRoutine 105 = .ok (.iload_n 2, 1) := by decide +kernel
set_option maxRecDepth 100000 in
theorem dX12_checkRoutine_106 : decode cX12_checkRoutine 106 = .ok (.invokevirtual 570, 3) := by decide +kernel
set_option maxRecDepth 100000 in
theorem dX12_checkRoutine_109 : decode cX12_checkRoutine 109 = .ok (.aload_n 0, 1) := by decide +kernel
set_option maxRecDepth 100000 in
theorem dX12_checkRoutine_110 : decode cX12_checkRoutine 110 = .ok (.getfield 82, 3) := by decide +kernel
set_option maxRecDepth 100000 in
theorem dX12_checkRoutine_113 : decode cX12_checkRoutine 113 = .ok (.iload 4, 2) := by decide +kernel
set_option maxRecDepth 100000 in
theorem dX12_checkRoutine_115 : decode cX12_checkRoutine 115 = .ok (.iaload, 1) := by decide +kernel
set_option maxRecDepth 100000 in
theorem dX12_checkRoutine_116 : decode cX12_checkRoutine 116 = .ok (.iconst 1, 1) := by decide +kernel
set_option maxRecDepth 100000 in
theorem dX12_checkRoutine_117 : decode cX12_checkRoutine 117 = .ok (.if_icmp .eq 26, 3) := by decide +kernel
set_option maxRecDepth 100000 in
theorem dX12_checkRoutine_120 : decode cX12_checkRoutine 120 = .ok (.aload_n 0, 1) := by decide +kernel
set_option maxRecDepth 100000 in
theorem dX12_checkRoutine_121 : decode cX12_checkRoutine 121 = .ok (.getfield 67, 3) := by decide +kernel
set_option maxRecDepth 100000 in
theorem dX12_checkRoutine_124 : decode cX12_checkRoutine 124 = .ok (.iload 5, 2) := by decide +kernel
set_option maxRecDepth 100000 in
theorem dX12_checkRoutine_126 : decode cX12_checkRoutine 126 = .ok (.iaload, 1) := by decide +kernel
set_option maxRecDepth 100000 in
theorem dX12_checkRoutine_127 : decode cX12_checkRoutine 127 = .ok (.iconst 4, 1) := by decide +kernel
set_option maxRecDepth 100000 in
theorem dX12_checkRoutine_128 : decode cX12_checkRoutine 128 = .ok (.if_icmp .eq 15, 3) := by decide +kernel
set_option maxRecDepth 100000 in
theorem dX12_checkRoutine_131 : decode cX12_checkRoutine 131 = .ok (.aload_n 0, 1) := by decide +kernel
set_option maxRecDepth 100000 in
theorem dX12_checkRoutine_132 : decode cX12_checkRoutine 132 = .ok (.getfield 67, 3) := by decide +kernel
set_option maxRecDepth 100000 in
theorem dX12_checkRoutine_135 : decode cX12_checkRoutine 135 = .ok (.iload 6, 2) := by decide +kernel
set_option maxRecDepth 100000 in
theorem dX12_checkRoutine_137 : decode cX12_checkRoutine 137 = .ok (.iaload, 1) := by decide +kernel
set_option maxRecDepth 100000 in
theorem dX12_checkRoutine_138 : decode cX12_checkRoutine 138 = .ok (.bipush 9, 2) := by decide +kernel
set_option maxRecDepth 100000 in
theorem dX12_checkRoutine_140 : decode cX12_checkRoutine 140 = .ok (.if_icmp .ne 10, 3) := by decide +kernel
set_option maxRecDepth 100000 in
theorem dX12_checkRoutine_143 : decode cX12_checkRoutine 143 = .ok (.aload_n 0, 1) := by decide +kernel
set_option maxRecDepth 100000 in
theorem dX12_checkRoutine_144 : decode cX12_checkRoutine 144 = .ok (.bipush 9, 2) := by decide +kernel
set_option maxRecDepth 100000 in
theorem dX12_checkRoutine_146 : decode cX12_checkRoutine 146 = .ok (.iload_n 2, 1) := by decide +kernel
set_option maxRecDepth 100000 in
theorem dX12_checkRoutine_147 : decode cX12_checkRoutine 147 = .ok (.invokevirtual 570, 3) := by decide +kernel
set_option maxRecDepth 100000 in
theorem dX12_checkRoutine_150 : decode cX12_checkRoutine 150 = .ok (.aload_n 0, 1) := by decide +kernel
set_option maxRecDepth 100000 in
theorem dX12_checkRoutine_151 : decode cX12_checkRoutine 151 = .ok (.aload 7, 2) := by decide +kernel
set_option maxRecDepth 100000 in
theorem dX12_checkRoutine_153 : decode cX12_checkRoutine 153 = .ok (.getfield 923, 3) := by decide +kernel
set_option maxRecDepth 100000 in
theorem dX12_checkRoutine_156 : decode cX12_checkRoutine 156 = .ok (.iconst (-1), 1) := by decide +kernel
set_option maxRecDepth 100000 in
theorem dX12_checkRoutine_157 : decode cX12_checkRoutine 157 = .ok (.invokevirtual 639, 3) := by decide +kernel
set_option maxRecDepth 100000 in
theorem dX12_checkRoutine_160 : decode cX12_checkRoutine 160 = .ok (.goto 182, 3) := by decide +kernel
set_option maxRecDepth 100000 in
theorem dX12_checkRoutine_163 : decode cX12_checkRoutine 163 = .ok (.aload_n 0, 1) := by decide +kernel
set_option maxRecDepth 100000 in
theorem dX12_checkRoutine_164 : decode cX12_checkRoutine 164 = .ok (.iconst 5, 1) := by decide +kernel
set_option maxRecDepth 100000 in
theorem dX12_checkRoutine_165 : decode cX12_checkRoutine 165 = .ok (.iload_n 2, 1) := by decide +kernel
set_option maxRecDepth 100000 in
theorem dX12_checkRoutine_166 : decode cX12_checkRoutine 166 = .ok (.aload_n 0, 1) := by decide +kernel
set_option maxRecDepth 100000 in
theorem dX12_checkRoutine_167 : decode cX12_checkRoutine 167 = .ok (.invokevirtual 694, 3) := by decide +kernel
set_option maxRecDepth 100000 in
theorem dX12_checkRoutine_170 : decode cX12_checkRoutine 170 = .ok (.invokevirtual 698, 3) := by decide +kernel
set_option maxRecDepth 100000 in
theorem dX12_checkRoutine_173 : decode cX12_checkRoutine 173 = .ok (.astore 7, 2) := by decide +kernel
set_option maxRecDepth 100000 in
theorem dX12_checkRoutine_175 : decode cX12_checkRoutine 175 = .ok (.aload 7, 2) := by decide +kernel
set_option maxRecDepth 100000 in
theorem dX12_checkRoutine_177 : decode cX12_checkRoutine 177 = .ok (.aload_n 0, 1) := by decide +kernel
set_option maxRecDepth 100000 in
theorem dX12_checkRoutine_178 : decode cX12_checkRoutine 178 = .ok (.invokevirtual 702, 3) := by decide +kernel
set_option maxRecDepth 100000 in
theorem dX12_checkRoutine_181 : decode cX12_checkRoutine 181 = .ok (.putfield 705, 3) := by decide +kernel
set_option maxRecDepth 100000 in
theorem dX12_checkRoutine_184 : decode cX12_checkRoutine 184 = .ok (.aload 7, 2) := by decide +kernel
set_option maxRecDepth 100000 in
theorem dX12_checkRoutine_186 : decode cX12_checkRoutine 186 = .ok (.iload_n 3, 1) := by decide +kernel
set_option maxRecDepth 100000 in
theorem dX12_checkRoutine_187 : decode cX12_checkRoutine 187 = .ok (.putfield 635, 3) := by decide +kernel
set_option maxRecDepth 100000 in
theorem dX12_checkRoutine_190 : decode cX12_checkRoutine 190 = .ok (.aload 7, 2) := by decide +kernel
set_option maxRecDepth 100000 in
theorem dX12_checkRoutine_192 : decode cX12_checkRoutine 192 = .ok (.new 131, 3) := by decide +kernel
set_option maxRecDepth 100000 in
theorem dX12_checkRoutine_195 : decode cX12_checkRoutine 195 = .ok (.dup, 1) := by decide +kernel
set_option maxRecDepth 100000 in
theorem dX12_checkRoutine_196 : decode cX12_checkRoutine 196 = .ok (.invokespecial 133, 3) := by decide +kernel
set_option maxRecDepth 100000 in
theorem dX12_checkRoutine_199 : decode cX12_checkRoutine 199 = .ok (.putfield 923, 3) := by decide +kernel
set_option maxRecDepth 100000 in
theorem dX12_checkRoutine_202 : decode cX12_checkRoutine 202 = .ok (.aload_n 0, 1) := by decide +kernel
set_option maxRecDepth 100000 in
theorem dX12_checkRoutine_203 : decode cX12_checkRoutine 203 = .ok (.dup, 1) := by decide +kernel
set_option maxRecDepth 100000 in
theorem dX12_checkRoutine_204 : decode cX12_checkRoutine 204 = .ok (.getfield 926, 3) := by decide +kernel
set_option maxRecDepth 100000 in
theorem dX12_checkRoutine_207 : decode cX12_checkRoutine 207 = .ok (.iconst 1, 1) := by decide +kernel
set_option maxRecDepth 100000 in
theorem dX12_checkRoutine_208 : decode cX12_checkRoutine 208 = .ok (.iadd, 1) := by decide +kernel
set_option maxRecDepth 100000 in
theorem dX12_checkRoutine_209 : decode cX12_checkRoutine 209 = .ok (.putfield 926, 3) := by decide +kernel
set_option maxRecDepth 100000 in
theorem dX12_checkRoutine_212 : decode cX12_checkRoutine 212 = .ok (.aload 7, 2) := by decide +kernel
set_option maxRecDepth 100000 in
theorem dX12_checkRoutine_214 : decode cX12_checkRoutine 214 = .ok (.aload_n 0, 1) := by decide +kernel
set_option maxRecDepth 100000 in
theorem dX12_checkRoutine_215 : decode cX12_checkRoutine 215 = .ok (.getfield 156, 3) := by decide +kernel
set_option maxRecDepth 100000 in
theorem dX12_checkRoutine_218 : decode cX12_checkRoutine 218 = .ok (.invokevirtual 554, 3) := by decide +kernel
set_option maxRecDepth 100000 in
theorem dX12_checkRoutine_221 : decode cX12_checkRoutine 221 = .ok (.putfield 772, 3) := by decide +kernel
set_option maxRecDepth 100000 in
theorem dX12_checkRoutine_224 : decode cX12_checkRoutine 224 = .ok (.aload_n 0, 1) := by decide +kernel
set_option maxRecDepth 100000 in
theorem dX12_checkRoutine_225 : decode cX12_checkRoutine 225 = .ok (.getfield 156, 3) := by decide +kernel
set_option maxRecDepth 100000 in
theorem dX12_checkRoutine_228 : decode cX12_checkRoutine 228 = .ok (.aload 7, 2) := by decide +kernel
set_option maxRecDepth 100000 in
theorem dX12_checkRoutine_230 : decode cX12_checkRoutine 230 = .ok (.invokevirtual 579, 3) := by decide +kernel
set_option maxRecDepth 100000 in
theorem dX12_checkRoutine_233 : decode cX12_checkRoutine 233 = .ok (.pop, 1) := by decide +kernel
set_option maxRecDepth 100000 in
theorem dX12_checkRoutine_234 : decode cX12_checkRoutine 234 = .ok (.aload_n 0, 1) := by decide +kernel
set_option maxRecDepth 100000 in
theorem dX12_checkRoutine_235 : decode cX12_checkRoutine 235 = .ok (.aload 7, 2) := by decide +kernel
set_option maxRecDepth 100000 in
theorem dX12_checkRoutine_237 : decode cX12_checkRoutine 237 = .ok (.getfield 923, 3) := by decide +kernel
set_option maxRecDepth 100000 in
theorem dX12_checkRoutine_240 : decode cX12_checkRoutine 240 = .ok (.iconst (-1), 1) := by decide +kernel
set_option maxRecDepth 100000 in
theorem dX12_checkRoutine_241 : decode cX12_checkRoutine 241 = .ok (.invokevirtual 639, 3) := by decide +kernel
set_option maxRecDepth 100000 in
theorem dX12_checkRoutine_244 : decode cX12_checkRoutine 244 = .ok (.aload_n 0, 1) := by decide +kernel
set_option maxRecDepth 100000 in
theorem dX12_checkRoutine_245 : decode cX12_checkRoutine 245 = .ok (.iload 4, 2) := by decide +kernel
set_option maxRecDepth 100000 in
theorem dX12_checkRoutine_247 : decode cX12_checkRoutine 247 = .ok (.aload 7, 2) := by decide +kernel
set_option maxRecDepth 100000 in
theorem dX12_checkRoutine_249 : decode cX12_checkRoutine 249 = .ok (.aload_n 0, 1) := by decide +kernel
set_option maxRecDepth 100000 in
theorem dX12_checkRoutine_250 : decode cX12_checkRoutine 250 = .ok (.invokevirtual 702, 3) := by decide +kernel
set_option maxRecDepth 100000 in
theorem dX12_checkRoutine_253 : decode cX12_checkRoutine 253 = .ok (.iconst 1, 1) := by decide +kernel
set_option maxRecDepth 100000 in
theorem dX12_checkRoutine_254 : decode cX12_checkRoutine 254 = .ok (.iadd, 1) := by decide +kernel
set_option maxRecDepth 100000 in
theorem dX12_checkRoutine_255 : decode cX12_checkRoutine 255 = .ok (.invokevirtual 929, 3) := by decide +kernel
set_option maxRecDepth 100000 in
theorem dX12_checkRoutine_258 : decode cX12_checkRoutine 258 = .ok (.iload_n 3, 1) := by decide +kernel
set_option maxRecDepth 100000 in
theorem dX12_checkRoutine_259 : decode cX12_checkRoutine 259 = .ok (.ifCond .eq 32, 3) := by decide +kernel
set_option maxRecDepth 100000 in
theorem dX12_checkRoutine_262 : decode cX12_checkRoutine 262 = .ok (.aload_n 0, 1) := by decide +kernel
set_option maxRecDepth 100000 in
theorem dX12_checkRoutine_263 : decode cX12_checkRoutine 263 = .ok (.getfield 67, 3) := by decide +kernel
set_option maxRecDepth 100000 in
theorem dX12_checkRoutine_266 : decode cX12_checkRoutine 266 = .ok (.iload 5, 2) := by decide +kernel
set_option maxRecDepth 100000 in
theorem dX12_checkRoutine_268 : decode cX12_checkRoutine 268 = .ok (.iaload, 1) := by decide +kernel
set_option maxRecDepth 100000 in
theorem dX12_checkRoutine_269 : decode cX12_checkRoutine 269 = .ok (.iconst 4, 1) := by decide +kernel
set_option maxRecDepth 100000 in
theorem dX12_checkRoutine_270 : decode cX12_checkRoutine 270 = .ok (.if_icmp .eq 10, 3) := by decide +kernel
set_option maxRecDepth 100000 in
theorem dX12_checkRoutine_273 : decode cX12_checkRoutine 273 = .ok (.aload_n 0, 1) := by decide +kernel
set_option maxRecDepth 100000 in
theorem dX12_checkRoutine_274 : decode cX12_checkRoutine 274 = .ok (.bipush 9, 2) := by decide +kernel
set_option maxRecDepth 100000 in
theorem dX12_checkRoutine_276 : decode cX12_checkRoutine 276 = .ok (.iload_n 2, 1) := by decide +kernel
set_option maxRecDepth 100000 in
theorem dX12_checkRoutine_277 : decode cX12_checkRoutine 277 = .ok (.invokevirtual 570, 3) := by decide +kernel
set_option maxRecDepth 100000 in
theorem dX12_checkRoutine_280 : decode cX12_checkRoutine 280 = .ok (.aload 7, 2) := by decide +kernel
set_option maxRecDepth 100000 in
theorem dX12_checkRoutine_282 : decode cX12_checkRoutine 282 = .ok (.aload_n 0, 1) := by decide +kernel
set_option maxRecDepth 100000 in
theorem dX12_checkRoutine_283 : decode cX12_checkRoutine 283 = .ok (.iload 5, 2) := by decide +kernel
set_option maxRecDepth 100000 in
theorem dX12_checkRoutine_285 : decode cX12_checkRoutine 285 = .ok (.invokevirtual 933, 3) := by decide +kernel
set_option maxRecDepth 100000 in
theorem dX12_checkRoutine_288 : decode cX12_checkRoutine 288 = .ok (.putfield 612, 3) := by decide +kernel
set_option maxRecDepth 100000 in
theorem dX12_checkRoutine_291 : decode cX12_checkRoutine 291 = .ok (.aload 7, 2) := by decide +kernel
set_option maxRecDepth 100000 in
theorem dX12_checkRoutine_293 : decode cX12_checkRoutine 293 = .ok (.aload 7, 2) := by decide +kernel
set_option maxRecDepth 100000 in
theorem dX12_checkRoutine_295 : decode cX12_checkRoutine 295 = .ok (.getfield 936, 3) := by decide +kernel
set_option maxRecDepth 100000 in
theorem dX12_checkRoutine_298 : decode cX12_checkRoutine 298 = .ok (.putfield 937, 3) := by decide +kernel
set_option maxRecDepth 100000 in
theorem dX12_checkRoutine_301 : decode cX12_checkRoutine 301 = .ok (.aload 7, 2) := by decide +kernel
set_option maxRecDepth 100000 in
theorem dX12_checkRoutine_303 : decode cX12_checkRoutine 303 = .ok (.dup, 1) := by decide +kernel
set_option maxRecDepth 100000 in
theorem dX12_checkRoutine_304 : decode cX12_checkRoutine 304 = .ok (.getfield 936, 3) := by decide +kernel
set_option maxRecDepth 100000 in
theorem dX12_checkRoutine_307 : decode cX12_checkRoutine 307 = .ok (.iload_n 3, 1) := by decide +kernel
set_option maxRecDepth 100000 in
theorem dX12_checkRoutine_308 : decode cX12_checkRoutine 308 = .ok (.ifCond .eq 7, 3) := by decide +kernel
set_option maxRecDepth 100000 in
theorem dX12_checkRoutine_311 : decode cX12_checkRoutine 311 = .ok (.iconst 1, 1) := by decide +kernel
set_option maxRecDepth 100000 in
theorem dX12_checkRoutine_312 : decode cX12_checkRoutine 312 = .ok (.goto 4, 3) := by decide +kernel
set_option maxRecDepth 100000 in
theorem dX12_checkRoutine_315 : decode cX12_checkRoutine 315 = .ok (.iconst 0, 1) := by decide +kernel
set_option maxRecDepth 100000 in
theorem dX12_checkRoutine_316 : decode cX12_checkRoutine 316 = .ok (.iadd, 1) := by decide +kernel
set_option maxRecDepth 100000 in
theorem dX12_checkRoutine_317 : decode cX12_checkRoutine 317 = .ok (.putfield 936, 3) := by decide +kernel
set_option maxRecDepth 100000 in
theorem dX12_checkRoutine_320 : decode cX12_checkRoutine 320 = .ok (.aload 7, 2) := by decide +kernel
set_option maxRecDepth 100000 in
theorem dX12_checkRoutine_322 : decode cX12_checkRoutine 322 = .ok (.aload_n 0, 1) := by decide +kernel
set_option maxRecDepth 100000 in
theorem dX12_checkRoutine_323 : decode cX12_checkRoutine 323 = .ok (.getfield 67, 3) := by decide +kernel
set_option maxRecDepth 100000 in
theorem dX12_checkRoutine_326 : decode cX12_checkRoutine 326 = .ok (.iload 6, 2) := by decide +kernel
set_option maxRecDepth 100000 in
theorem dX12_checkRoutine_328 : decode cX12_checkRoutine 328 = .ok (.iaload, 1) := by decide +kernel
set_option maxRecDepth 100000 in
theorem dX12_checkRoutine_329 : decode cX12_checkRoutine 329 = .ok (.bipush 9, 2) := by decide +kernel
set_option maxRecDepth 100000 in
theorem dX12_checkRoutine_331 : decode cX12_checkRoutine 331 = .ok (.if_icmp .ne 7, 3) := by decide +kernel
set_option maxRecDepth 100000 in
theorem dX12_checkRoutine_334 : decode cX12_checkRoutine 334 = .ok (.iconst 1, 1) := by decide +kernel
set_option maxRecDepth 100000 in
theorem dX12_checkRoutine_335 : decode cX12_checkRoutine 335 = .ok (.goto 4, 3) := by decide +kernel
set_option maxRecDepth 100000 in
theorem dX12_checkRoutine_338 : decode cX12_checkRoutine 338 = .ok (.iconst 0, 1) := by decide +kernel
set_option maxRecDepth 100000 in
theorem dX12_checkRoutine_339 : decode cX12_checkRoutine 339 = .ok (.putfield 796, 3) := by decide +kernel
set_option maxRecDepth 100000 in
theorem dX12_checkRoutine_342 : decode cX12_checkRoutine 342 = .ok (.aload_n 0, 1) := by decide +kernel
set_option maxRecDepth 100000 in
theorem dX12_checkRoutine_343 : decode cX12_checkRoutine 343 = .ok (.getfield 67, 3) := by decide +kernel
set_option maxRecDepth 100000 in
theorem dX12_checkRoutine_346 : decode cX12_checkRoutine 346 = .ok (.iload 6, 2) := by decide +kernel
set_option maxRecDepth 100000 in
theorem dX12_checkRoutine_348 : decode cX12_checkRoutine 348 = .ok (.iaload, 1) := by decide +kernel
set_option maxRecDepth 100000 in
theorem dX12_checkRoutine_349 : decode cX12_checkRoutine 349 = .ok (.iconst 2, 1) := by decide +kernel
set_option maxRecDepth 100000 in
theorem dX12_checkRoutine_350 : decode cX12_checkRoutine 350 = .ok (.if_icmp .ne 91, 3) := by decide +kernel
set_option maxRecDepth 100000 in
theorem dX12_checkRoutine_353 : decode cX12_checkRoutine 353 = .ok (.aload 7, 2) := by decide +kernel
set_option maxRecDepth 100000 in
theorem dX12_checkRoutine_355 : decode cX12_checkRoutine 355 = .ok (.iconst 1, 1) := by decide +kernel
set_option maxRecDepth 100000 in
theorem dX12_checkRoutine_356 : decode cX12_checkRoutine 356 = .ok (.putfield 799, 3) := by decide +kernel
set_option maxRecDepth 100000 in
theorem dX12_checkRoutine_359 : decode cX12_checkRoutine 359 = .ok (.aload 7, 2) := by decide +kernel
set_option maxRecDepth 100000 in
theorem dX12_checkRoutine_361 : decode cX12_checkRoutine 361 = .ok (.iconst 1, 1) := by decide +kernel
set_option maxRecDepth 100000 in
theorem dX12_checkRoutine_362 : decode cX12_checkRoutine 362 = .ok (.putfield 940, 3) := by decide +kernel
set_option maxRecDepth 100000 in
theorem dX12_checkRoutine_365 : decode cX12_checkRoutine 365 = .ok (.aload 7, 2) := by decide +kernel
set_option maxRecDepth 100000 in
theorem dX12_checkRoutine_367 : decode cX12_checkRoutine 367 = .ok (.iload 6, 2) := by decide +kernel
set_option maxRecDepth 100000 in
theorem dX12_checkRoutine_369 : decode cX12_checkRoutine 369 = .ok (.putfield 943, 3) := by decide +kernel
set_option maxRecDepth 100000 in
theorem dX12_checkRoutine_372 : decode cX12_checkRoutine 372 = .ok (.new 685, 3) := by decide +kernel
set_option maxRecDepth 100000 in
theorem dX12_checkRoutine_375 : decode cX12_checkRoutine 375 = .ok (.dup, 1) := by decide +kernel
set_option maxRecDepth 100000 in
theorem dX12_checkRoutine_376 : decode cX12_checkRoutine 376 = .ok (.invokespecial 716, 3) := by decide +kernel
set_option maxRecDepth 100000 in
theorem dX12_checkRoutine_379 : decode cX12_checkRoutine 379 = .ok (.astore 8, 2) := by decide +kernel
set_option maxRecDepth 100000 in
theorem dX12_checkRoutine_381 : decode cX12_checkRoutine 381 = .ok (.aload 8, 2) := by decide +kernel
set_option maxRecDepth 100000 in
theorem dX12_checkRoutine_383 : decode cX12_checkRoutine 383 = .ok (.aload 7, 2) := by decide +kernel
set_option maxRecDepth 100000 in
theorem dX12_checkRoutine_385 : decode cX12_checkRoutine 385 = .ok (.getfield 936, 3) := by decide +kernel
set_option maxRecDepth 100000 in
theorem dX12_checkRoutine_388 : decode cX12_checkRoutine 388 = .ok (.putfield 711, 3) := by decide +kernel
set_option maxRecDepth 100000 in
theorem dX12_checkRoutine_391 : decode cX12_checkRoutine 391 = .ok (.aload_n 0, 1) := by decide +kernel
set_option maxRecDepth 100000 in
theorem dX12_checkRoutine_392 : decode cX12_checkRoutine 392 = .ok (.getfield 141, 3) := by decide +kernel
set_option maxRecDepth 100000 in
theorem dX12_checkRoutine_395 : decode cX12_checkRoutine 395 = .ok (.aload 8, 2) := by decide +kernel
set_option maxRecDepth 100000 in
theorem dX12_checkRoutine_397 : decode cX12_checkRoutine 397 = .ok (.invokevirtual 579, 3) := by decide +kernel
set_option maxRecDepth 100000 in
theorem dX12_checkRoutine_400 : decode cX12_checkRoutine 400 = .ok (.pop, 1) := by decide +kernel
set_option maxRecDepth 100000 in
theorem dX12_checkRoutine_401 : decode cX12_checkRoutine 401 = .ok (.aload_n 0, 1) := by decide +kernel
set_option maxRecDepth 100000 in
theorem dX12_checkRoutine_402 : decode cX12_checkRoutine 402 = .ok (.iload 6, 2) := by decide +kernel
set_option maxRecDepth 100000 in
theorem dX12_checkRoutine_404 : decode cX12_checkRoutine 404 = .ok (.iconst (-1), 1) := by decide +kernel
set_option maxRecDepth 100000 in
theorem dX12_checkRoutine_405 : decode cX12_checkRoutine 405 = .ok (.invokevirtual 740, 3) := by decide +kernel
set_option maxRecDepth 100000 in
theorem dX12_checkRoutine_408 : decode cX12_checkRoutine 408 = .ok (.aload 7, 2) := by decide +kernel
set_option maxRecDepth 100000 in
theorem dX12_checkRoutine_410 : decode cX12_checkRoutine 410 = .ok (.aload 8, 2) := by decide +kernel
set_option maxRecDepth 100000 in
theorem dX12_checkRoutine_412 : decode cX12_checkRoutine 412 = .ok (.getfield 711, 3) := by decide +kernel
set_option maxRecDepth 100000 in
theorem dX12_checkRoutine_415 : decode cX12_checkRoutine 415 = .ok (.putfield 936, 3) := by decide +kernel
set_option maxRecDepth 100000 in
theorem dX12_checkRoutine_418 : decode cX12_checkRoutine 418 = .ok (.aload_n 0, 1) := by decide +kernel
set_option maxRecDepth 100000 in
theorem dX12_checkRoutine_419 : decode cX12_checkRoutine 419 = .ok (.getfield 141, 3) := by decide +kernel
set_option maxRecDepth 100000 in
theorem dX12_checkRoutine_422 : decode cX12_checkRoutine 422 = .ok (.aload_n 0, 1) := by decide +kernel
set_option maxRecDepth 100000 in
theorem dX12_checkRoutine_423 : decode cX12_checkRoutine 423 = .ok (.getfield 141, 3) := by decide +kernel
set_option maxRecDepth 100000 in
theorem dX12_checkRoutine_426 : decode cX12_checkRoutine 426 = .ok (.invokevirtual 554, 3) := by decide +kernel
set_option maxRecDepth 100000 in
theorem dX12_checkRoutine_429 : decode cX12_checkRoutine 429 = .ok (.iconst 1, 1) := by decide +kernel
set_option maxRecDepth 100000 in
theorem dX12_checkRoutine_430 : decode cX12_checkRoutine 430 = .ok (.isub, 1) := by decide +kernel
set_option maxRecDepth 100000 in
theorem dX12_checkRoutine_431 : decode cX12_checkRoutine 431 = .ok (.invokevirtual 582, 3) := by decide +kernel
set_option maxRecDepth 100000 in
theorem dX12_checkRoutine_434 : decode cX12_checkRoutine 434 = .ok (.pop, 1) := by decide +kernel
set_option maxRecDepth 100000 in
theorem dX12_checkRoutine_435 : decode cX12_checkRoutine 435 = .ok (.aload 7, 2) := by decide +kernel
set_option maxRecDepth 100000 in
theorem dX12_checkRoutine_437 : decode cX12_checkRoutine 437 = .ok (.iconst 0, 1) := by decide +kernel
set_option maxRecDepth 100000 in
theorem dX12_checkRoutine_438 : decode cX12_checkRoutine 438 = .ok (.putfield 940, 3) := by decide +kernel
set_option maxRecDepth 100000 in
theorem dX12_checkRoutine_441 : decode cX12_checkRoutine 441 = .ok (.aload_n 0, 1) := by decide +kernel
set_option maxRecDepth 100000 in
theorem dX12_checkRoutine_442 : decode cX12_checkRoutine 442 = .ok (.invokevirtual 746, 3) := by decide +kernel
set_option maxRecDepth 100000 in
theorem dX12_checkRoutine_445 : decode cX12_checkRoutine 445 = .ok (.pop, 1) := by decide +kernel
set_option maxRecDepth 100000 in
theorem dX12_checkRoutine_446 : decode cX12_checkRoutine 446 = .ok (.aload_n 0, 1) := by decide +kernel
set_option maxRecDepth 100000 in
theorem dX12_checkRoutine_447 : decode cX12_checkRoutine 447 = .ok (.getfield 67, 3) := by decide +kernel
set_option maxRecDepth 100000 in
theorem dX12_checkRoutine_450 : decode cX12_checkRoutine 450 = .ok (.iload 6, 2) := by decide +kernel
set_option maxRecDepth 100000 in
theorem dX12_checkRoutine_452 : decode cX12_checkRoutine 452 = .ok (.iaload, 1) := by decide +kernel
set_option maxRecDepth 100000 in
theorem dX12_checkRoutine_453 : decode cX12_checkRoutine 453 = .ok (.iconst 2, 1) := by decide +kernel
set_option maxRecDepth 100000 in
theorem dX12_checkRoutine_454 : decode cX12_checkRoutine 454 = .ok (.if_icmp .ne 22, 3) := by decide +kernel
set_option maxRecDepth 100000 in
theorem dX12_checkRoutine_457 : decode cX12_checkRoutine 457 = .ok (.iload_n 3, 1) := by decide +kernel
set_option maxRecDepth 100000 in
theorem dX12_checkRoutine_458 : decode cX12_checkRoutine 458 = .ok (.ifCond .eq 18, 3) := by decide +kernel
set_option maxRecDepth 100000 in
theorem dX12_checkRoutine_461 : decode cX12_checkRoutine 461 = .ok (.aload 7, 2) := by decide +kernel
set_option maxRecDepth 100000 in
theorem dX12_checkRoutine_463 : decode cX12_checkRoutine 463 = .ok (.getfield 946, 3) := by decide +kernel
set_option maxRecDepth 100000 in
theorem dX12_checkRoutine_466 : decode cX12_checkRoutine 466 = .ok (.ifCond .ne 10, 3) := by decide +kernel
set_option maxRecDepth 100000 in
theorem dX12_checkRoutine_469 : decode cX12_checkRoutine 469 = .ok (.aload_n 0, 1) := by decide +kernel
set_option maxRecDepth 100000 in
theorem dX12_checkRoutine_470 : decode cX12_checkRoutine 470 = .ok (.bipush 10, 2) := by decide +kernel
set_option maxRecDepth 100000 in
theorem dX12_checkRoutine_472 : decode cX12_checkRoutine 472 = .ok (.iload_n 2, 1) := by decide +kernel
set_option maxRecDepth 100000 in
theorem dX12_checkRoutine_473 : decode cX12_checkRoutine 473 = .ok (.invokevirtual 570, 3) := by decide +kernel
set_option maxRecDepth 100000 in
theorem dX12_checkRoutine_476 : decode cX12_checkRoutine 476 = .ok (.return_, 1) := by decide +kernel
set_option maxRecDepth 100000 in
def bX12_checkRoutine_476 (G : xG) (fr lo : Nat) (h : xH) (Q : Outcome → xH → Prop) : Prop := Q (.returned none) h
set_option maxRecDepth 100000 in
theorem uX12_checkRoutine_476 {G : xG} {fr lo : Nat} {h : xH} {Q : Outcome → xH → Prop} (hq : bX12_checkRoutine_476 G fr lo h Q) : xP G YX12_checkRoutine fr lo 476 [] [] h Q := by
  unfold bX12_checkRoutine_476 at hq
  exact x_vret rfl dX12_checkRoutine_476 hq
set_option maxRecDepth 100000 in
def bX12_checkRoutine_441 (G : xG) (fr lo : Nat) (x0 : Nat) (x2 : Int32) (x3 : Int32) (x6 : Int32) (x7 : Nat) (h : xH) (Q : Outcome → xH → Prop) : Prop := tg h x0 = 13 ∧ 1 ≤ fr ∧ 12 ≤ lo ∧ xRr G YX12_pop (fr - 1) (lo - 12) [rv x0] h (fun x5 h4 => xext h h4 → tg h4 (fR h4 x0 3101) = 100 ∧ vp_in x6 (ln h4 (fR h4 x0 3101)) ∧ ((¬ (aI h4 (fR h4 x0 3101) (Int32.toNatClampNeg x6)) = 2 → bX12_checkRoutine_476 G fr lo h4 Q) ∧ ((aI h4 (fR h4 x0 3101) (Int32.toNatClampNeg x6)) = 2 → ((x3 = 0 → bX12_checkRoutine_476 G fr lo h4 Q) ∧ (¬ x3 = 0 → tg h4 x7 = 24 ∧ ((¬ (fI h4 x7 5908) = 0 → bX12_checkRoutine_476 G fr lo h4 Q) ∧ ((fI h4 x7 5908) = 0 → 1 ≤ fr ∧ 14 ≤ lo ∧ xRv G YX12_refuse (fr - 1) (lo - 14) [rv x0, .int 10, .int x2] h4 (fun h16 => xext h4 h16 → bX12_checkRoutine_476 G fr lo h16 Q) (fun r h2 => Q (.threw r) h2)))))))) (fun r h2 => Q (.threw r) h2)
set_option maxRecDepth 100000 in
theorem uX12_checkRoutine_441 {G : xG} {fr lo : Nat} {x0 : Nat} {x2 : Int32} {x3 : Int32} {x6 : Int32} {x7 : Nat} {h : xH} {Q : Outcome → xH → Prop} (hq : bX12_checkRoutine_441 G fr lo x0 x2 x3 x6 x7 h Q) : xP G YX12_checkRoutine fr lo 441 [(0, rv x0), (2, .int x2), (3, .int x3), (6, .int x6), (7, rv x7)] [] h Q := by
  unfold bX12_checkRoutine_441 at hq
  refine x_aload_n 0 dX12_checkRoutine_441 rfl ?_
  obtain ⟨g1, hq⟩ := hq
  obtain ⟨g2, g3, hq⟩ := hq
  refine x_callV (Yc := YX12_pop) (as := []) (st := []) q4283 mvX12_pop g1 rfl dX12_checkRoutine_442 (xle (xal1 (rv_cat _) xal0) (by decide)) (xfr g2) (xlo xsw0 (by decide) g3) (xKr hq (fun x5 h4 hq e6 => ?_) (fun _ _ q _ => q))
  replace hq := hq e6
  refine x_pop dX12_checkRoutine_445 (rv_cat _) ?_
  refine x_aload_n 0 dX12_checkRoutine_446 rfl ?_
  have t7 : tg h4 x0 = 13 := e6.tg g1 (by decide)
  refine x_get (v := rv (fR h4 x0 3101)) fdX12_67 dX12_checkRoutine_447 t7 rfl ?_
  refine x_iload 3 dX12_checkRoutine_450 rfl ?_
  obtain ⟨g8, hq⟩ := hq
  obtain ⟨i9, hq⟩ := hq
  refine x_iald 0 (Or.inl rfl) g8 i9 dX12_checkRoutine_452 ?_
  refine x_iconst (v := 2) dX12_checkRoutine_453 (by decide) ?_
  refine x_icmp_ne (tgt := 476) dX12_checkRoutine_454 (by decide) (fun c10 => ?_) (fun c10 => ?_)
  · replace hq := hq.1 c10
    refine xP.pick (lv' := []) [] rfl ?_
    exact uX12_checkRoutine_476 hq
  · replace hq := hq.2 c10
    refine x_iload_n 2 dX12_checkRoutine_457 rfl ?_
    refine x_if_eq (tgt := 476) dX12_checkRoutine_458 (by decide) (fun c11 => ?_) (fun c11 => ?_)
    · replace hq := hq.1 c11
      refine xP.pick (lv' := []) [] rfl ?_
      exact uX12_checkRoutine_476 hq
    · replace hq := hq.2 c11
      refine x_aload 4 dX12_checkRoutine_461 rfl ?_
      obtain ⟨g12, hq⟩ := hq
      refine x_get (v := .int (fI h4 x7 5908)) fdX12_946 dX12_checkRoutine_463 g12 rfl ?_
      refine x_if_ne (tgt := 476) dX12_checkRoutine_466 (by decide) (fun c13 => ?_) (fun c13 => ?_)
      · replace hq := hq.1 c13
        refine xP.pick (lv' := []) [] rfl ?_
        exact uX12_checkRoutine_476 hq
      · replace hq := hq.2 c13
        refine x_aload_n 0 dX12_checkRoutine_469 rfl ?_
        refine x_bipush (v := 10) dX12_checkRoutine_470 (by decide) ?_
        refine x_iload_n 1 dX12_checkRoutine_472 rfl ?_
        obtain ⟨g14, g15, hq⟩ := hq
        refine x_callV (Yc := YX12_refuse) (as := [.int 10, .int x2]) (st := []) q4095 mvX12_refuse t7 rfl dX12_checkRoutine_473 (xle (xal1 (rv_cat _) (xal1 rfl (xal1 rfl xal0))) (by decide)) (xfr g14) (xlo xsw0 (by decide) g15) (xKv hq (fun h16 hq e18 => ?_) (fun _ _ q _ => q))
        replace hq := hq e18
        refine xP.pick (lv' := []) [] rfl ?_
        exact uX12_checkRoutine_476 hq
set_option maxRecDepth 100000 in
def bX12_checkRoutine_342 (G : xG) (fr lo : Nat) (x0 : Nat) (x2 : Int32) (x3 : Int32) (x6 : Int32) (x7 : Nat) (h : xH) (Q : Outcome → xH → Prop) : Prop := tg h x0 = 13 ∧ tg h (fR h x0 3101) = 100 ∧ vp_in x6 (ln h (fR h x0 3101)) ∧ ((¬ (aI h (fR h x0 3101) (Int32.toNatClampNeg x6)) = 2 → bX12_checkRoutine_441 G fr lo x0 x2 x3 x6 x7 h Q) ∧ ((aI h (fR h x0 3101) (Int32.toNatClampNeg x6)) = 2 → tg h x7 = 24 ∧ (∀ h6 : xH, h6 = sI h x7 5907 1 → (∀ h9 : xH, h9 = sI h6 x7 5909 1 → (∀ h12 : xH, h12 = sI h9 x7 5912 x6 → nx h12 + 1 ≤ xGN G ∧ us h12 + 4 ≤ xGU G ∧ (∀ (a16 : Nat) (h17 : xH), a16 = nx h12 + 1 → h17 = nO h12 25 4 → xfresh h12 a16 → 1 ≤ fr ∧ 13 ≤ lo ∧ xRv G YX24_init (fr - 1) (lo - 13) [rv a16] h17 (fun h24 => xext h17 h24 → (∀ h31 : xH, h31 = sI h24 a16 6146 (fI h24 x7 5914) → tg h31 (fR h31 x0 3126) = 29 ∧ 1 ≤ fr ∧ 13 ≤ lo ∧ xRi G YJ2_add (fr - 1) (lo - 13) [rv (fR h31 x0 3126), rv a16] h31 (fun x43 h42 => xext h31 h42 → 1 ≤ fr ∧ 23 ≤ lo ∧ xRv G YX12_checkBlock (fr - 1) (lo - 23) [rv x0, .int x6, .int (-1)] h42 (fun h48 => xext h42 h48 → (∀ h57 : xH, h57 = sI h48 x7 5914 (fI h48 a16 6146) → tg h57 (fR h57 x0 3126) = 29 ∧ 1 ≤ fr ∧ 13 ≤ lo ∧ xRi G YJ2_size (fr - 1) (lo - 13) [rv (fR h57 x0 3126)] h57 (fun x65 h64 => xext h57 h64 → 1 ≤ fr ∧ 15 ≤ lo ∧ xRr G YJ2_remove (fr - 1) (lo - 15) [rv (fR h57 x0 3126), .int (x65 - 1)] h64 (fun x71 h70 => xext h64 h70 → (∀ h76 : xH, h76 = sI h70 x7 5909 0 → bX12_checkRoutine_441 G fr lo x0 x2 x3 x6 x7 h76 Q)) (fun r h2 => Q (.threw r) h2)) (fun r h2 => Q (.threw r) h2))) (fun r h2 => Q (.threw r) h2)) (fun r h2 => Q (.threw r) h2))) (fun r h2 => Q (.threw r) h2)))))))
set_option maxRecDepth 100000 in
theorem uX12_checkRoutine_342 {G : xG} {fr lo : Nat} {x0 : Nat} {x2 : Int32} {x3 : Int32} {x6 : Int32} {x7 : Nat} {h : xH} {Q : Outcome → xH → Prop} (hq : bX12_checkRoutine_342 G fr lo x0 x2 x3 x6 x7 h Q) : xP G YX12_checkRoutine fr lo 342 [(0, rv x0), (2, .int x2), (3, .int x3), (6, .int x6), (7, rv x7)] [] h Q := by
  unfold bX12_checkRoutine_342 at hq
  refine x_aload_n 0 dX12_checkRoutine_342 rfl ?_
  obtain ⟨g1, hq⟩ := hq
  refine x_get (v := rv (fR h x0 3101)) fdX12_67 dX12_checkRoutine_343 g1 rfl ?_
  refine x_iload 3 dX12_checkRoutine_346 rfl ?_
  obtain ⟨g2, hq⟩ := hq
  obtain ⟨i3, hq⟩ := hq
  refine x_iald 0 (Or.inl rfl) g2 i3 dX12_checkRoutine_348 ?_
  refine x_iconst (v := 2) dX12_checkRoutine_349 (by decide) ?_
  refine x_icmp_ne (tgt := 441) dX12_checkRoutine_350 (by decide) (fun c4 => ?_) (fun c4 => ?_)
  · replace hq := hq.1 c4
    exact uX12_checkRoutine_441 hq
  · replace hq := hq.2 c4
    refine x_aload 4 dX12_checkRoutine_353 rfl ?_
    refine x_iconst (v := 1) dX12_checkRoutine_355 (by decide) ?_
    obtain ⟨g5, hq⟩ := hq
    obtain ⟨h6, e7⟩ : ∃ y, y = sI h x7 5907 1 := ⟨_, rfl⟩
    replace hq := hq h6 e7
    refine x_putI fdX12_799 xty_Z1 dX12_checkRoutine_356 g5 (Or.inl (by rw [g5]; rfl)) (xnB (Or.inr rfl)) rfl e7 ?_
    refine x_aload 4 dX12_checkRoutine_359 rfl ?_
    refine x_iconst (v := 1) dX12_checkRoutine_361 (by decide) ?_
    have t8 : tg h6 x7 = 24 := by rw [e7]; exact g5
    obtain ⟨h9, e10⟩ : ∃ y, y = sI h6 x7 5909 1 := ⟨_, rfl⟩
    replace hq := hq h9 e10
    refine x_putI fdX12_940 xty_Z1 dX12_checkRoutine_362 t8 (Or.inl (by rw [t8]; rfl)) (xnB (Or.inr rfl)) rfl e10 ?_
    refine x_aload 4 dX12_checkRoutine_365 rfl ?_
    refine x_iload 3 dX12_checkRoutine_367 rfl ?_
    have t11 : tg h9 x7 = 24 := by rw [e10]; exact t8
    obtain ⟨h12, e13⟩ : ∃ y, y = sI h9 x7 5912 x6 := ⟨_, rfl⟩
    replace hq := hq h12 e13
    refine x_putI fdX12_943 xty_I1 dX12_checkRoutine_369 t11 (Or.inl (by rw [t11]; rfl)) xnI rfl e13 ?_
    obtain ⟨g14, g15, hq⟩ := hq
    obtain ⟨a16, e18⟩ : ∃ y, y = nx h12 + 1 := ⟨_, rfl⟩
    obtain ⟨h17, e19⟩ : ∃ y, y = nO h12 25 4 := ⟨_, rfl⟩
    refine x_new' cdX12_685 dX12_checkRoutine_372 g14 g15 e18 e19 (fun f20 => ?_)
    replace hq := hq a16 h17 e18 e19 f20
    have t21 : tg h17 a16 = 25 := by rw [e19, e18]; exact tg_nO
    refine x_dup dX12_checkRoutine_375 (rv_cat _) ?_
    obtain ⟨g22, g23, hq⟩ := hq
    refine x_callIN (Yc := YX24_init) (as := []) (st := [rv a16]) (List.mem_filter.mpr ⟨q4074, rfl⟩) miX24_init (by rw [t21]; decide) rfl dX12_checkRoutine_376 (xle (xal1 (rv_cat _) xal0) (by decide)) (xfr g22) (xlo (xsw1 (rv_cat _) xsw0) (by decide) g23) (xKv hq (fun h24 hq e26 => ?_) (fun _ _ q _ => q))
    replace hq := hq e26
    refine x_astore (lv' := [(8, rv a16), (0, rv x0), (2, .int x2), (3, .int x3), (6, .int x6), (7, rv x7)]) dX12_checkRoutine_379 (by decide) (by first | rfl | (simp [rv_cat, Value.category]; done) | (simp [rv_cat, Value.category]; decide)) ?_
    refine x_aload 0 dX12_checkRoutine_381 rfl ?_
    refine x_aload 5 dX12_checkRoutine_383 rfl ?_
    have t27 : tg h12 x7 = 24 := by rw [e13]; exact t11
    have t28 : tg h17 x7 = 24 := by rw [e19]; exact tg_nO_ne e18 f20 t27 (by decide)
    have t29 : tg h24 x7 = 24 := e26.tg t28 (by decide)
    refine x_get (v := .int (fI h24 x7 5914)) fdX12_936 dX12_checkRoutine_385 t29 rfl ?_
    have t30 : tg h24 a16 = 25 := e26.tg t21 (by decide)
    obtain ⟨h31, e32⟩ : ∃ y, y = sI h24 a16 6146 (fI h24 x7 5914) := ⟨_, rfl⟩
    replace hq := hq h31 e32
    refine x_putI fdX12_711 xty_I1 dX12_checkRoutine_388 t30 (Or.inl (by rw [t30]; rfl)) xnI rfl e32 ?_
    refine x_aload_n 1 dX12_checkRoutine_391 rfl ?_
    have t33 : tg h6 x0 = 13 := by rw [e7]; exact g1
    have t34 : tg h9 x0 = 13 := by rw [e10]; exact t33
    have t35 : tg h12 x0 = 13 := by rw [e13]; exact t34
    have t36 : tg h17 x0 = 13 := by rw [e19]; exact tg_nO_ne e18 f20 t35 (by decide)
    have t37 : tg h24 x0 = 13 := e26.tg t36 (by decide)
    have t38 : tg h31 x0 = 13 := by rw [e32]; exact t37
    refine x_get (v := rv (fR h31 x0 3126)) fdX12_141 dX12_checkRoutine_392 t38 rfl ?_
    refine x_aload 0 dX12_checkRoutine_395 rfl ?_
    obtain ⟨g39, hq⟩ := hq
    obtain ⟨g40, g41, hq⟩ := hq
    refine x_callV (Yc := YJ2_add) (as := [rv a16]) (st := []) q4030 mvJ2_add g39 rfl dX12_checkRoutine_397 (xle (xal1 (rv_cat _) (xal1 (rv_cat _) xal0)) (by decide)) (xfr g40) (xlo xsw0 (by decide) g41) (xKi hq (fun x43 h42 hq e44 => ?_) (fun _ _ q _ => q))
    replace hq := hq e44
    refine x_pop dX12_checkRoutine_400 rfl ?_
    refine x_aload_n 1 dX12_checkRoutine_401 rfl ?_
    refine x_iload 4 dX12_checkRoutine_402 rfl ?_
    refine x_iconst (v := (-1)) dX12_checkRoutine_404 (by decide) ?_
    have t45 : tg h42 x0 = 13 := e44.tg t38 (by decide)
    obtain ⟨g46, g47, hq⟩ := hq
    refine x_callV (Yc := YX12_checkBlock) (as := [.int x6, .int (-1)]) (st := []) q4130 mvX12_checkBlock t45 rfl dX12_checkRoutine_405 (xle (xal1 (rv_cat _) (xal1 rfl (xal1 rfl xal0))) (by decide)) (xfr g46) (xlo xsw0 (by decide) g47) (xKv hq (fun h48 hq e50 => ?_) (fun _ _ q _ => q))
    replace hq := hq e50
    refine x_aload 5 dX12_checkRoutine_408 rfl ?_
    refine x_aload 0 dX12_checkRoutine_410 rfl ?_
    have t51 : tg h31 a16 = 25 := by rw [e32]; exact t30
    have t52 : tg h42 a16 = 25 := e44.tg t51 (by decide)
    have t53 : tg h48 a16 = 25 := e50.tg t52 (by decide)
    refine x_get (v := .int (fI h48 a16 6146)) fdX12_711 dX12_checkRoutine_412 t53 rfl ?_
    have t54 : tg h31 x7 = 24 := by rw [e32]; exact t29
    have t55 : tg h42 x7 = 24 := e44.tg t54 (by decide)
    have t56 : tg h48 x7 = 24 := e50.tg t55 (by decide)
    obtain ⟨h57, e58⟩ : ∃ y, y = sI h48 x7 5914 (fI h48 a16 6146) := ⟨_, rfl⟩
    replace hq := hq h57 e58
    refine x_putI fdX12_936 xty_I1 dX12_checkRoutine_415 t56 (Or.inl (by rw [t56]; rfl)) xnI rfl e58 ?_
    refine x_aload_n 1 dX12_checkRoutine_418 rfl ?_
    have t59 : tg h48 x0 = 13 := e50.tg t45 (by decide)
    have t60 : tg h57 x0 = 13 := by rw [e58]; exact t59
    refine x_get (v := rv (fR h57 x0 3126)) fdX12_141 dX12_checkRoutine_419 t60 rfl ?_
    refine x_aload_n 1 dX12_checkRoutine_422 rfl ?_
    refine x_get (v := rv (fR h57 x0 3126)) fdX12_141 dX12_checkRoutine_423 t60 rfl ?_
    obtain ⟨g61, hq⟩ := hq
    obtain ⟨g62, g63, hq⟩ := hq
    refine x_callV (Yc := YJ2_size) (as := []) (st := [rv (fR h57 x0 3126)]) q4067 mvJ2_size g61 rfl dX12_checkRoutine_426 (xle (xal1 (rv_cat _) xal0) (by decide)) (xfr g62) (xlo (xsw1 (rv_cat _) xsw0) (by decide) g63) (xKi hq (fun x65 h64 hq e66 => ?_) (fun _ _ q _ => q))
    replace hq := hq e66
    refine x_iconst (v := 1) dX12_checkRoutine_429 (by decide) ?_
    refine x_isub dX12_checkRoutine_430 ?_
    have t67 : tg h64 (fR h57 x0 3126) = 29 := e66.tg g61 (by decide)
    obtain ⟨g68, g69, hq⟩ := hq
    refine x_callV (Yc := YJ2_remove) (as := [.int (x65 - 1)]) (st := []) q4287 mvJ2_remove t67 rfl dX12_checkRoutine_431 (xle (xal1 (rv_cat _) (xal1 rfl xal0)) (by decide)) (xfr g68) (xlo xsw0 (by decide) g69) (xKr hq (fun x71 h70 hq e72 => ?_) (fun _ _ q _ => q))
    replace hq := hq e72
    refine x_pop dX12_checkRoutine_434 (rv_cat _) ?_
    refine x_aload 5 dX12_checkRoutine_435 rfl ?_
    refine x_iconst (v := 0) dX12_checkRoutine_437 (by decide) ?_
    have t73 : tg h57 x7 = 24 := by rw [e58]; exact t56
    have t74 : tg h64 x7 = 24 := e66.tg t73 (by decide)
    have t75 : tg h70 x7 = 24 := e72.tg t74 (by decide)
    obtain ⟨h76, e77⟩ : ∃ y, y = sI h70 x7 5909 0 := ⟨_, rfl⟩
    replace hq := hq h76 e77
    refine x_putI fdX12_940 xty_Z1 dX12_checkRoutine_438 t75 (Or.inl (by rw [t75]; rfl)) (xnB (Or.inl rfl)) rfl e77 ?_
    refine xP.pick (lv' := [(0, rv x0), (2, .int x2), (3, .int x3), (6, .int x6), (7, rv x7)]) [1, 2, 3, 4, 5] rfl ?_
    exact uX12_checkRoutine_441 hq
set_option maxRecDepth 100000 in
def bX12_checkRoutine_339 (G : xG) (fr lo : Nat) (x0 : Nat) (x2 : Int32) (x3 : Int32) (x6 : Int32) (x7 : Nat) (s0 : Int32) (s1 : Nat) (h : xH) (Q : Outcome → xH → Prop) : Prop := tg h s1 = 24 ∧ xbz s0 ∧ (∀ h3 : xH, h3 = sI h s1 5906 s0 → bX12_checkRoutine_342 G fr lo x0 x2 x3 x6 x7 h3 Q)
set_option maxRecDepth 100000 in
theorem uX12_checkRoutine_339 {G : xG} {fr lo : Nat} {x0 : Nat} {x2 : Int32} {x3 : Int32} {x6 : Int32} {x7 : Nat} {s0 : Int32} {s1 : Nat} {h : xH} {Q : Outcome → xH → Prop} (hq : bX12_checkRoutine_339 G fr lo x0 x2 x3 x6 x7 s0 s1 h Q) : xP G YX12_checkRoutine fr lo 339 [(0, rv x0), (2, .int x2), (3, .int x3), (6, .int x6), (7, rv x7)] [.int s0, rv s1] h Q := by
  unfold bX12_checkRoutine_339 at hq
  obtain ⟨g1, hq⟩ := hq
  obtain ⟨g2, hq⟩ := hq
  obtain ⟨h3, e4⟩ : ∃ y, y = sI h s1 5906 s0 := ⟨_, rfl⟩
  replace hq := hq h3 e4
  refine x_putI fdX12_796 xty_Z1 dX12_checkRoutine_339 g1 (Or.inl (by rw [g1]; rfl)) (xnB g2) rfl e4 ?_
  exact uX12_checkRoutine_342 hq
set_option maxRecDepth 100000 in
def bX12_checkRoutine_316 (G : xG) (fr lo : Nat) (x0 : Nat) (x2 : Int32) (x3 : Int32) (x6 : Int32) (x7 : Nat) (s0 : Int32) (s1 : Int32) (s2 : Nat) (h : xH) (Q : Outcome → xH → Prop) : Prop := tg h s2 = 24 ∧ (∀ h2 : xH, h2 = sI h s2 5914 (s1 + s0) → tg h2 x0 = 13 ∧ tg h2 (fR h2 x0 3101) = 100 ∧ vp_in x6 (ln h2 (fR h2 x0 3101)) ∧ ((¬ (aI h2 (fR h2 x0 3101) (Int32.toNatClampNeg x6)) = 9 → bX12_checkRoutine_339 G fr lo x0 x2 x3 x6 x7 0 x7 h2 Q) ∧ ((aI h2 (fR h2 x0 3101) (Int32.toNatClampNeg x6)) = 9 → bX12_checkRoutine_339 G fr lo x0 x2 x3 x6 x7 1 x7 h2 Q)))
set_option maxRecDepth 100000 in
theorem uX12_checkRoutine_316 {G : xG} {fr lo : Nat} {x0 : Nat} {x2 : Int32} {x3 : Int32} {x6 : Int32} {x7 : Nat} {s0 : Int32} {s1 : Int32} {s2 : Nat} {h : xH} {Q : Outcome → xH → Prop} (hq : bX12_checkRoutine_316 G fr lo x0 x2 x3 x6 x7 s0 s1 s2 h Q) : xP G YX12_checkRoutine fr lo 316 [(0, rv x0), (2, .int x2), (3, .int x3), (6, .int x6), (7, rv x7)] [.int s0, .int s1, rv s2] h Q := by
  unfold bX12_checkRoutine_316 at hq
  refine x_iadd dX12_checkRoutine_316 ?_
  obtain ⟨g1, hq⟩ := hq
  obtain ⟨h2, e3⟩ : ∃ y, y = sI h s2 5914 (s1 + s0) := ⟨_, rfl⟩
  replace hq := hq h2 e3
  refine x_putI fdX12_936 xty_I1 dX12_checkRoutine_317 g1 (Or.inl (by rw [g1]; rfl)) xnI rfl e3 ?_
  refine x_aload 4 dX12_checkRoutine_320 rfl ?_
  refine x_aload_n 0 dX12_checkRoutine_322 rfl ?_
  obtain ⟨g4, hq⟩ := hq
  refine x_get (v := rv (fR h2 x0 3101)) fdX12_67 dX12_checkRoutine_323 g4 rfl ?_
  refine x_iload 3 dX12_checkRoutine_326 rfl ?_
  obtain ⟨g5, hq⟩ := hq
  obtain ⟨i6, hq⟩ := hq
  refine x_iald 0 (Or.inl rfl) g5 i6 dX12_checkRoutine_328 ?_
  refine x_bipush (v := 9) dX12_checkRoutine_329 (by decide) ?_
  refine x_icmp_ne (tgt := 338) dX12_checkRoutine_331 (by decide) (fun c7 => ?_) (fun c7 => ?_)
  · replace hq := hq.1 c7
    refine x_iconst (v := 0) dX12_checkRoutine_338 (by decide) ?_
    exact uX12_checkRoutine_339 hq
  · replace hq := hq.2 c7
    refine x_iconst (v := 1) dX12_checkRoutine_334 (by decide) ?_
    refine x_goto (tgt := 339) dX12_checkRoutine_335 (by decide) ?_
    exact uX12_checkRoutine_339 hq
set_option maxRecDepth 100000 in
def bX12_checkRoutine_291 (G : xG) (fr lo : Nat) (x0 : Nat) (x2 : Int32) (x3 : Int32) (x6 : Int32) (x7 : Nat) (h : xH) (Q : Outcome → xH → Prop) : Prop := tg h x7 = 24 ∧ (∀ h2 : xH, h2 = sI h x7 5915 (fI h x7 5914) → ((x3 = 0 → bX12_checkRoutine_316 G fr lo x0 x2 x3 x6 x7 0 (fI h2 x7 5914) x7 h2 Q) ∧ (¬ x3 = 0 → bX12_checkRoutine_316 G fr lo x0 x2 x3 x6 x7 1 (fI h2 x7 5914) x7 h2 Q)))
set_option maxRecDepth 100000 in
theorem uX12_checkRoutine_291 {G : xG} {fr lo : Nat} {x0 : Nat} {x2 : Int32} {x3 : Int32} {x6 : Int32} {x7 : Nat} {h : xH} {Q : Outcome → xH → Prop} (hq : bX12_checkRoutine_291 G fr lo x0 x2 x3 x6 x7 h Q) : xP G YX12_checkRoutine fr lo 291 [(0, rv x0), (2, .int x2), (3, .int x3), (6, .int x6), (7, rv x7)] [] h Q := by
  unfold bX12_checkRoutine_291 at hq
  refine x_aload 4 dX12_checkRoutine_291 rfl ?_
  refine x_aload 4 dX12_checkRoutine_293 rfl ?_
  obtain ⟨g1, hq⟩ := hq
  refine x_get (v := .int (fI h x7 5914)) fdX12_936 dX12_checkRoutine_295 g1 rfl ?_
  obtain ⟨h2, e3⟩ : ∃ y, y = sI h x7 5915 (fI h x7 5914) := ⟨_, rfl⟩
  replace hq := hq h2 e3
  refine x_putI fdX12_937 xty_I1 dX12_checkRoutine_298 g1 (Or.inl (by rw [g1]; rfl)) xnI rfl e3 ?_
  refine x_aload 4 dX12_checkRoutine_301 rfl ?_
  refine x_dup dX12_checkRoutine_303 (rv_cat _) ?_
  have t4 : tg h2 x7 = 24 := by rw [e3]; exact g1
  refine x_get (v := .int (fI h2 x7 5914)) fdX12_936 dX12_checkRoutine_304 t4 rfl ?_
  refine x_iload_n 2 dX12_checkRoutine_307 rfl ?_
  refine x_if_eq (tgt := 315) dX12_checkRoutine_308 (by decide) (fun c5 => ?_) (fun c5 => ?_)
  · replace hq := hq.1 c5
    refine x_iconst (v := 0) dX12_checkRoutine_315 (by decide) ?_
    exact uX12_checkRoutine_316 hq
  · replace hq := hq.2 c5
    refine x_iconst (v := 1) dX12_checkRoutine_311 (by decide) ?_
    refine x_goto (tgt := 316) dX12_checkRoutine_312 (by decide) ?_
    exact uX12_checkRoutine_316 hq
set_option maxRecDepth 100000 in
def bX12_checkRoutine_280 (G : xG) (fr lo : Nat) (x0 : Nat) (x2 : Int32) (x3 : Int32) (x5 : Int32) (x6 : Int32) (x7 : Nat) (h : xH) (Q : Outcome → xH → Prop) : Prop := tg h x0 = 13 ∧ 1 ≤ fr ∧ 15 ≤ lo ∧ xRr G YX12_resultOf (fr - 1) (lo - 15) [rv x0, .int x5] h (fun x5 h4 => xext h h4 → tg h4 x7 = 24 ∧ (∀ h8 : xH, h8 = sR h4 x7 5890 x5 → bX12_checkRoutine_291 G fr lo x0 x2 x3 x6 x7 h8 Q)) (fun r h2 => Q (.threw r) h2)
set_option maxRecDepth 100000 in
theorem uX12_checkRoutine_280 {G : xG} {fr lo : Nat} {x0 : Nat} {x2 : Int32} {x3 : Int32} {x5 : Int32} {x6 : Int32} {x7 : Nat} {h : xH} {Q : Outcome → xH → Prop} (hq : bX12_checkRoutine_280 G fr lo x0 x2 x3 x5 x6 x7 h Q) : xP G YX12_checkRoutine fr lo 280 [(0, rv x0), (2, .int x2), (3, .int x3), (5, .int x5), (6, .int x6), (7, rv x7)] [] h Q := by
  unfold bX12_checkRoutine_280 at hq
  refine x_aload 5 dX12_checkRoutine_280 rfl ?_
  refine x_aload_n 0 dX12_checkRoutine_282 rfl ?_
  refine x_iload 3 dX12_checkRoutine_283 rfl ?_
  obtain ⟨g1, hq⟩ := hq
  obtain ⟨g2, g3, hq⟩ := hq
  refine x_callV (Yc := YX12_resultOf) (as := [.int x5]) (st := [rv x7]) q4279 mvX12_resultOf g1 rfl dX12_checkRoutine_285 (xle (xal1 (rv_cat _) (xal1 rfl xal0)) (by decide)) (xfr g2) (xlo (xsw1 (rv_cat _) xsw0) (by decide) g3) (xKr hq (fun x5 h4 hq e6 => ?_) (fun _ _ q _ => q))
  replace hq := hq e6
  obtain ⟨g7, hq⟩ := hq
  obtain ⟨h8, e9⟩ : ∃ y, y = sR h4 x7 5890 x5 := ⟨_, rfl⟩
  replace hq := hq h8 e9
  refine x_putR fdX12_612 xty_O dX12_checkRoutine_288 g7 (Or.inl (by rw [g7]; rfl)) rfl e9 ?_
  refine xP.pick (lv' := [(0, rv x0), (2, .int x2), (3, .int x3), (6, .int x6), (7, rv x7)]) [0, 1, 2, 4, 5] rfl ?_
  exact uX12_checkRoutine_291 hq
set_option maxRecDepth 100000 in
def bX12_checkRoutine_163 (G : xG) (fr lo : Nat) (x0 : Nat) (x2 : Int32) (x3 : Int32) (x4 : Int32) (x5 : Int32) (x6 : Int32) (h : xH) (Q : Outcome → xH → Prop) : Prop := tg h x0 = 13 ∧ 1 ≤ fr ∧ 15 ≤ lo ∧ xRr G YX12_here (fr - 1) (lo - 15) [rv x0] h (fun x5 h4 => xext h h4 → 1 ≤ fr ∧ 16 ≤ lo ∧ xRr G YX12_define (fr - 1) (lo - 16) [rv x0, .int 5, .int x2, rv x5] h4 (fun x11 h10 => xext h4 h10 → 1 ≤ fr ∧ 13 ≤ lo ∧ xRi G YX12_level (fr - 1) (lo - 13) [rv x0] h10 (fun x17 h16 => xext h10 h16 → tg h16 x11 = 24 ∧ (∀ h20 : xH, h20 = sI h16 x11 5893 x17 → xbz x3 ∧ (∀ h24 : xH, h24 = sI h20 x11 5905 x3 → nx h24 + 1 ≤ xGN G ∧ us h24 + 3 ≤ xGU G ∧ (∀ (a28 : Nat) (h29 : xH), a28 = nx h24 + 1 → h29 = nO h24 29 3 → xfresh h24 a28 → 1 ≤ fr ∧ 14 ≤ lo ∧ xRv G YJ2_init_2 (fr - 1) (lo - 14) [rv a28] h29 (fun h36 => xext h29 h36 → (∀ h42 : xH, h42 = sR h36 x11 5911 a28 → (∀ h50 : xH, h50 = sI h42 x0 3134 ((fI h42 x0 3134) + 1) → tg h50 (fR h50 x0 3146) = 29 ∧ 1 ≤ fr ∧ 13 ≤ lo ∧ xRi G YJ2_size (fr - 1) (lo - 13) [rv (fR h50 x0 3146)] h50 (fun x57 h56 => xext h50 h56 → (∀ h62 : xH, h62 = sI h56 x11 5904 x57 → tg h62 (fR h62 x0 3146) = 29 ∧ 1 ≤ fr ∧ 13 ≤ lo ∧ xRi G YJ2_add (fr - 1) (lo - 13) [rv (fR h62 x0 3146), rv x11] h62 (fun x70 h69 => xext h62 h69 → 1 ≤ fr ∧ 14 ≤ lo ∧ xRv G YX12_push (fr - 1) (lo - 14) [rv x0, rv (fR h69 x11 5911), .int (-1)] h69 (fun h77 => xext h69 h77 → 1 ≤ fr ∧ 15 ≤ lo ∧ xRi G YX12_level (fr - 1) (lo - 15) [rv x0] h77 (fun x84 h83 => xext h77 h83 → 1 ≤ fr ∧ 20 ≤ lo ∧ xRv G YX12_parameters (fr - 1) (lo - 20) [rv x0, .int x4, rv x11, .int (x84 + 1)] h83 (fun h89 => xext h83 h89 → ((x3 = 0 → bX12_checkRoutine_291 G fr lo x0 x2 x3 x6 x11 h89 Q) ∧ (¬ x3 = 0 → tg h89 (fR h89 x0 3101) = 100 ∧ vp_in x5 (ln h89 (fR h89 x0 3101)) ∧ (((aI h89 (fR h89 x0 3101) (Int32.toNatClampNeg x5)) = 4 → bX12_checkRoutine_280 G fr lo x0 x2 x3 x5 x6 x11 h89 Q) ∧ (¬ (aI h89 (fR h89 x0 3101) (Int32.toNatClampNeg x5)) = 4 → 1 ≤ fr ∧ 14 ≤ lo ∧ xRv G YX12_refuse (fr - 1) (lo - 14) [rv x0, .int 9, .int x2] h89 (fun h99 => xext h89 h99 → bX12_checkRoutine_280 G fr lo x0 x2 x3 x5 x6 x11 h99 Q) (fun r h2 => Q (.threw r) h2)))))) (fun r h2 => Q (.threw r) h2)) (fun r h2 => Q (.threw r) h2)) (fun r h2 => Q (.threw r) h2)) (fun r h2 => Q (.threw r) h2))) (fun r h2 => Q (.threw r) h2)))) (fun r h2 => Q (.threw r) h2))))) (fun r h2 => Q (.threw r) h2)) (fun r h2 => Q (.threw r) h2)) (fun r h2 => Q (.threw r) h2)
set_option maxRecDepth 100000 in
theorem uX12_checkRoutine_163 {G : xG} {fr lo : Nat} {x0 : Nat} {x2 : Int32} {x3 : Int32} {x4 : Int32} {x5 : Int32} {x6 : Int32} {h : xH} {Q : Outcome → xH → Prop} (hq : bX12_checkRoutine_163 G fr lo x0 x2 x3 x4 x5 x6 h Q) : xP G YX12_checkRoutine fr lo 163 [(0, rv x0), (2, .int x2), (3, .int x3), (4, .int x4), (5, .int x5), (6, .int x6)] [] h Q := by
  unfold bX12_checkRoutine_163 at hq
  refine x_aload_n 0 dX12_checkRoutine_163 rfl ?_
  refine x_iconst (v := 5) dX12_checkRoutine_164 (by decide) ?_
  refine x_iload_n 1 dX12_checkRoutine_165 rfl ?_
  refine x_aload_n 0 dX12_checkRoutine_166 rfl ?_
  obtain ⟨g1, hq⟩ := hq
  obtain ⟨g2, g3, hq⟩ := hq
  refine x_callV (Yc := YX12_here) (as := []) (st := [.int x2, .int 5, rv x0]) q4105 mvX12_here g1 rfl dX12_checkRoutine_167 (xle (xal1 (rv_cat _) xal0) (by decide)) (xfr g2) (xlo (xsw1 rfl (xsw1 rfl (xsw1 (rv_cat _) xsw0))) (by decide) g3) (xKr hq (fun x5 h4 hq e6 => ?_) (fun _ _ q _ => q))
  replace hq := hq e6
  have t7 : tg h4 x0 = 13 := e6.tg g1 (by decide)
  obtain ⟨g8, g9, hq⟩ := hq
  refine x_callV (Yc := YX12_define) (as := [.int 5, .int x2, rv x5]) (st := []) q4110 mvX12_define t7 rfl dX12_checkRoutine_170 (xle (xal1 (rv_cat _) (xal1 rfl (xal1 rfl (xal1 (rv_cat _) xal0)))) (by decide)) (xfr g8) (xlo xsw0 (by decide) g9) (xKr hq (fun x11 h10 hq e12 => ?_) (fun _ _ q _ => q))
  replace hq := hq e12
  refine x_astore (lv' := [(7, rv x11), (0, rv x0), (2, .int x2), (3, .int x3), (4, .int x4), (5, .int x5), (6, .int x6)]) dX12_checkRoutine_173 (by decide) rfl ?_
  refine x_aload 0 dX12_checkRoutine_175 rfl ?_
  refine x_aload_n 1 dX12_checkRoutine_177 rfl ?_
  have t13 : tg h10 x0 = 13 := e12.tg t7 (by decide)
  obtain ⟨g14, g15, hq⟩ := hq
  refine x_callV (Yc := YX12_level) (as := []) (st := [rv x11]) q4118 mvX12_level t13 rfl dX12_checkRoutine_178 (xle (xal1 (rv_cat _) xal0) (by decide)) (xfr g14) (xlo (xsw1 (rv_cat _) xsw0) (by decide) g15) (xKi hq (fun x17 h16 hq e18 => ?_) (fun _ _ q _ => q))
  replace hq := hq e18
  obtain ⟨g19, hq⟩ := hq
  obtain ⟨h20, e21⟩ : ∃ y, y = sI h16 x11 5893 x17 := ⟨_, rfl⟩
  replace hq := hq h20 e21
  refine x_putI fdX12_705 xty_I1 dX12_checkRoutine_181 g19 (Or.inl (by rw [g19]; rfl)) xnI rfl e21 ?_
  refine x_aload 0 dX12_checkRoutine_184 rfl ?_
  refine x_iload_n 3 dX12_checkRoutine_186 rfl ?_
  have t22 : tg h20 x11 = 24 := by rw [e21]; exact g19
  obtain ⟨g23, hq⟩ := hq
  obtain ⟨h24, e25⟩ : ∃ y, y = sI h20 x11 5905 x3 := ⟨_, rfl⟩
  replace hq := hq h24 e25
  refine x_putI fdX12_635 xty_Z1 dX12_checkRoutine_187 t22 (Or.inl (by rw [t22]; rfl)) (xnB g23) rfl e25 ?_
  refine x_aload 0 dX12_checkRoutine_190 rfl ?_
  obtain ⟨g26, g27, hq⟩ := hq
  obtain ⟨a28, e30⟩ : ∃ y, y = nx h24 + 1 := ⟨_, rfl⟩
  obtain ⟨h29, e31⟩ : ∃ y, y = nO h24 29 3 := ⟨_, rfl⟩
  refine x_new' cdX12_131 dX12_checkRoutine_192 g26 g27 e30 e31 (fun f32 => ?_)
  replace hq := hq a28 h29 e30 e31 f32
  have t33 : tg h29 a28 = 29 := by rw [e31, e30]; exact tg_nO
  refine x_dup dX12_checkRoutine_195 (rv_cat _) ?_
  obtain ⟨g34, g35, hq⟩ := hq
  refine x_callI (Yc := YJ2_init_2) (as := []) (st := [rv a28, rv x11]) q3246 miJ2_init_2 (by rw [t33]; decide) rfl dX12_checkRoutine_196 (xle (xal1 (rv_cat _) xal0) (by decide)) (xfr g34) (xlo (xsw1 (rv_cat _) (xsw1 (rv_cat _) xsw0)) (by decide) g35) (xKv hq (fun h36 hq e38 => ?_) (fun _ _ q _ => q))
  replace hq := hq e38
  have t39 : tg h24 x11 = 24 := by rw [e25]; exact t22
  have t40 : tg h29 x11 = 24 := by rw [e31]; exact tg_nO_ne e30 f32 t39 (by decide)
  have t41 : tg h36 x11 = 24 := e38.tg t40 (by decide)
  obtain ⟨h42, e43⟩ : ∃ y, y = sR h36 x11 5911 a28 := ⟨_, rfl⟩
  replace hq := hq h42 e43
  refine x_putR fdX12_923 xty_O dX12_checkRoutine_199 t41 (Or.inl (by rw [t41]; rfl)) rfl e43 ?_
  refine x_aload_n 1 dX12_checkRoutine_202 rfl ?_
  refine x_dup dX12_checkRoutine_203 (rv_cat _) ?_
  have t44 : tg h16 x0 = 13 := e18.tg t13 (by decide)
  have t45 : tg h20 x0 = 13 := by rw [e21]; exact t44
  have t46 : tg h24 x0 = 13 := by rw [e25]; exact t45
  have t47 : tg h29 x0 = 13 := by rw [e31]; exact tg_nO_ne e30 f32 t46 (by decide)
  have t48 : tg h36 x0 = 13 := e38.tg t47 (by decide)
  have t49 : tg h42 x0 = 13 := by rw [e43]; exact t48
  refine x_get (v := .int (fI h42 x0 3134)) fdX12_926 dX12_checkRoutine_204 t49 rfl ?_
  refine x_iconst (v := 1) dX12_checkRoutine_207 (by decide) ?_
  refine x_iadd dX12_checkRoutine_208 ?_
  obtain ⟨h50, e51⟩ : ∃ y, y = sI h42 x0 3134 ((fI h42 x0 3134) + 1) := ⟨_, rfl⟩
  replace hq := hq h50 e51
  refine x_putI fdX12_926 xty_I1 dX12_checkRoutine_209 t49 (Or.inl (by rw [t49]; rfl)) xnI rfl e51 ?_
  refine x_aload 0 dX12_checkRoutine_212 rfl ?_
  refine x_aload_n 1 dX12_checkRoutine_214 rfl ?_
  have t52 : tg h50 x0 = 13 := by rw [e51]; exact t49
  refine x_get (v := rv (fR h50 x0 3146)) fdX12_156 dX12_checkRoutine_215 t52 rfl ?_
  obtain ⟨g53, hq⟩ := hq
  obtain ⟨g54, g55, hq⟩ := hq
  refine x_callV (Yc := YJ2_size) (as := []) (st := [rv x11]) q4067 mvJ2_size g53 rfl dX12_checkRoutine_218 (xle (xal1 (rv_cat _) xal0) (by decide)) (xfr g54) (xlo (xsw1 (rv_cat _) xsw0) (by decide) g55) (xKi hq (fun x57 h56 hq e58 => ?_) (fun _ _ q _ => q))
  replace hq := hq e58
  have t59 : tg h42 x11 = 24 := by rw [e43]; exact t41
  have t60 : tg h50 x11 = 24 := by rw [e51]; exact t59
  have t61 : tg h56 x11 = 24 := e58.tg t60 (by decide)
  obtain ⟨h62, e63⟩ : ∃ y, y = sI h56 x11 5904 x57 := ⟨_, rfl⟩
  replace hq := hq h62 e63
  refine x_putI fdX12_772 xty_I1 dX12_checkRoutine_221 t61 (Or.inl (by rw [t61]; rfl)) xnI rfl e63 ?_
  refine x_aload_n 1 dX12_checkRoutine_224 rfl ?_
  have t64 : tg h56 x0 = 13 := e58.tg t52 (by decide)
  have t65 : tg h62 x0 = 13 := by rw [e63]; exact t64
  refine x_get (v := rv (fR h62 x0 3146)) fdX12_156 dX12_checkRoutine_225 t65 rfl ?_
  refine x_aload 0 dX12_checkRoutine_228 rfl ?_
  obtain ⟨g66, hq⟩ := hq
  obtain ⟨g67, g68, hq⟩ := hq
  refine x_callV (Yc := YJ2_add) (as := [rv x11]) (st := []) q4030 mvJ2_add g66 rfl dX12_checkRoutine_230 (xle (xal1 (rv_cat _) (xal1 (rv_cat _) xal0)) (by decide)) (xfr g67) (xlo xsw0 (by decide) g68) (xKi hq (fun x70 h69 hq e71 => ?_) (fun _ _ q _ => q))
  replace hq := hq e71
  refine x_pop dX12_checkRoutine_233 rfl ?_
  refine x_aload_n 1 dX12_checkRoutine_234 rfl ?_
  refine x_aload 0 dX12_checkRoutine_235 rfl ?_
  have t72 : tg h62 x11 = 24 := by rw [e63]; exact t61
  have t73 : tg h69 x11 = 24 := e71.tg t72 (by decide)
  refine x_get (v := rv (fR h69 x11 5911)) fdX12_923 dX12_checkRoutine_237 t73 rfl ?_
  refine x_iconst (v := (-1)) dX12_checkRoutine_240 (by decide) ?_
  have t74 : tg h69 x0 = 13 := e71.tg t65 (by decide)
  obtain ⟨g75, g76, hq⟩ := hq
  refine x_callV (Yc := YX12_push) (as := [rv (fR h69 x11 5911), .int (-1)]) (st := []) q4063 mvX12_push t74 rfl dX12_checkRoutine_241 (xle (xal1 (rv_cat _) (xal1 (rv_cat _) (xal1 rfl xal0))) (by decide)) (xfr g75) (xlo xsw0 (by decide) g76) (xKv hq (fun h77 hq e79 => ?_) (fun _ _ q _ => q))
  replace hq := hq e79
  refine x_aload_n 1 dX12_checkRoutine_244 rfl ?_
  refine x_iload 4 dX12_checkRoutine_245 rfl ?_
  refine x_aload 0 dX12_checkRoutine_247 rfl ?_
  refine x_aload_n 1 dX12_checkRoutine_249 rfl ?_
  have t80 : tg h77 x0 = 13 := e79.tg t74 (by decide)
  obtain ⟨g81, g82, hq⟩ := hq
  refine x_callV (Yc := YX12_level) (as := []) (st := [rv x11, .int x4, rv x0]) q4118 mvX12_level t80 rfl dX12_checkRoutine_250 (xle (xal1 (rv_cat _) xal0) (by decide)) (xfr g81) (xlo (xsw1 (rv_cat _) (xsw1 rfl (xsw1 (rv_cat _) xsw0))) (by decide) g82) (xKi hq (fun x84 h83 hq e85 => ?_) (fun _ _ q _ => q))
  replace hq := hq e85
  refine x_iconst (v := 1) dX12_checkRoutine_253 (by decide) ?_
  refine x_iadd dX12_checkRoutine_254 ?_
  have t86 : tg h83 x0 = 13 := e85.tg t80 (by decide)
  obtain ⟨g87, g88, hq⟩ := hq
  refine x_callV (Yc := YX12_parameters) (as := [.int x4, rv x11, .int (x84 + 1)]) (st := []) q4275 mvX12_parameters t86 rfl dX12_checkRoutine_255 (xle (xal1 (rv_cat _) (xal1 rfl (xal1 (rv_cat _) (xal1 rfl xal0)))) (by decide)) (xfr g87) (xlo xsw0 (by decide) g88) (xKv hq (fun h89 hq e91 => ?_) (fun _ _ q _ => q))
  replace hq := hq e91
  refine x_iload_n 3 dX12_checkRoutine_258 rfl ?_
  refine x_if_eq (tgt := 291) dX12_checkRoutine_259 (by decide) (fun c92 => ?_) (fun c92 => ?_)
  · replace hq := hq.1 c92
    refine xP.pick (lv' := [(0, rv x0), (2, .int x2), (3, .int x3), (6, .int x6), (7, rv x11)]) [1, 2, 3, 6, 0] rfl ?_
    exact uX12_checkRoutine_291 hq
  · replace hq := hq.2 c92
    refine x_aload_n 1 dX12_checkRoutine_262 rfl ?_
    have t93 : tg h89 x0 = 13 := e91.tg t86 (by decide)
    refine x_get (v := rv (fR h89 x0 3101)) fdX12_67 dX12_checkRoutine_263 t93 rfl ?_
    refine x_iload 5 dX12_checkRoutine_266 rfl ?_
    obtain ⟨g94, hq⟩ := hq
    obtain ⟨i95, hq⟩ := hq
    refine x_iald 0 (Or.inl rfl) g94 i95 dX12_checkRoutine_268 ?_
    refine x_iconst (v := 4) dX12_checkRoutine_269 (by decide) ?_
    refine x_icmp_eq (tgt := 280) dX12_checkRoutine_270 (by decide) (fun c96 => ?_) (fun c96 => ?_)
    · replace hq := hq.1 c96
      refine xP.pick (lv' := [(0, rv x0), (2, .int x2), (3, .int x3), (5, .int x5), (6, .int x6), (7, rv x11)]) [1, 2, 3, 5, 6, 0] rfl ?_
      exact uX12_checkRoutine_280 hq
    · replace hq := hq.2 c96
      refine x_aload_n 1 dX12_checkRoutine_273 rfl ?_
      refine x_bipush (v := 9) dX12_checkRoutine_274 (by decide) ?_
      refine x_iload_n 2 dX12_checkRoutine_276 rfl ?_
      obtain ⟨g97, g98, hq⟩ := hq
      refine x_callV (Yc := YX12_refuse) (as := [.int 9, .int x2]) (st := []) q4095 mvX12_refuse t93 rfl dX12_checkRoutine_277 (xle (xal1 (rv_cat _) (xal1 rfl (xal1 rfl xal0))) (by decide)) (xfr g97) (xlo xsw0 (by decide) g98) (xKv hq (fun h99 hq e101 => ?_) (fun _ _ q _ => q))
      replace hq := hq e101
      refine xP.pick (lv' := [(0, rv x0), (2, .int x2), (3, .int x3), (5, .int x5), (6, .int x6), (7, rv x11)]) [1, 2, 3, 5, 6, 0] rfl ?_
      exact uX12_checkRoutine_280 hq
set_option maxRecDepth 100000 in
def bX12_checkRoutine_150 (G : xG) (fr lo : Nat) (x0 : Nat) (x2 : Int32) (x3 : Int32) (x6 : Int32) (x7 : Nat) (h : xH) (Q : Outcome → xH → Prop) : Prop := tg h x7 = 24 ∧ tg h x0 = 13 ∧ 1 ≤ fr ∧ 14 ≤ lo ∧ xRv G YX12_push (fr - 1) (lo - 14) [rv x0, rv (fR h x7 5911), .int (-1)] h (fun h5 => xext h h5 → bX12_checkRoutine_342 G fr lo x0 x2 x3 x6 x7 h5 Q) (fun r h2 => Q (.threw r) h2)
set_option maxRecDepth 100000 in
theorem uX12_checkRoutine_150 {G : xG} {fr lo : Nat} {x0 : Nat} {x2 : Int32} {x3 : Int32} {x6 : Int32} {x7 : Nat} {h : xH} {Q : Outcome → xH → Prop} (hq : bX12_checkRoutine_150 G fr lo x0 x2 x3 x6 x7 h Q) : xP G YX12_checkRoutine fr lo 150 [(0, rv x0), (2, .int x2), (3, .int x3), (6, .int x6), (7, rv x7)] [] h Q := by
  unfold bX12_checkRoutine_150 at hq
  refine x_aload_n 0 dX12_checkRoutine_150 rfl ?_
  refine x_aload 4 dX12_checkRoutine_151 rfl ?_
  obtain ⟨g1, hq⟩ := hq
  refine x_get (v := rv (fR h x7 5911)) fdX12_923 dX12_checkRoutine_153 g1 rfl ?_
  refine x_iconst (v := (-1)) dX12_checkRoutine_156 (by decide) ?_
  obtain ⟨g2, hq⟩ := hq
  obtain ⟨g3, g4, hq⟩ := hq
  refine x_callV (Yc := YX12_push) (as := [rv (fR h x7 5911), .int (-1)]) (st := []) q4063 mvX12_push g2 rfl dX12_checkRoutine_157 (xle (xal1 (rv_cat _) (xal1 (rv_cat _) (xal1 rfl xal0))) (by decide)) (xfr g3) (xlo xsw0 (by decide) g4) (xKv hq (fun h5 hq e7 => ?_) (fun _ _ q _ => q))
  replace hq := hq e7
  refine x_goto (tgt := 342) dX12_checkRoutine_160 (by decide) ?_
  exact uX12_checkRoutine_342 hq
set_option maxRecDepth 100000 in
def bX12_checkRoutine_143 (G : xG) (fr lo : Nat) (x0 : Nat) (x2 : Int32) (x3 : Int32) (x6 : Int32) (x7 : Nat) (h : xH) (Q : Outcome → xH → Prop) : Prop := tg h x0 = 13 ∧ 1 ≤ fr ∧ 14 ≤ lo ∧ xRv G YX12_refuse (fr - 1) (lo - 14) [rv x0, .int 9, .int x2] h (fun h4 => xext h h4 → bX12_checkRoutine_150 G fr lo x0 x2 x3 x6 x7 h4 Q) (fun r h2 => Q (.threw r) h2)
set_option maxRecDepth 100000 in
theorem uX12_checkRoutine_143 {G : xG} {fr lo : Nat} {x0 : Nat} {x2 : Int32} {x3 : Int32} {x6 : Int32} {x7 : Nat} {h : xH} {Q : Outcome → xH → Prop} (hq : bX12_checkRoutine_143 G fr lo x0 x2 x3 x6 x7 h Q) : xP G YX12_checkRoutine fr lo 143 [(0, rv x0), (2, .int x2), (3, .int x3), (6, .int x6), (7, rv x7)] [] h Q := by
  unfold bX12_checkRoutine_143 at hq
  refine x_aload_n 0 dX12_checkRoutine_143 rfl ?_
  refine x_bipush (v := 9) dX12_checkRoutine_144 (by decide) ?_
  refine x_iload_n 1 dX12_checkRoutine_146 rfl ?_
  obtain ⟨g1, hq⟩ := hq
  obtain ⟨g2, g3, hq⟩ := hq
  refine x_callV (Yc := YX12_refuse) (as := [.int 9, .int x2]) (st := []) q4095 mvX12_refuse g1 rfl dX12_checkRoutine_147 (xle (xal1 (rv_cat _) (xal1 rfl (xal1 rfl xal0))) (by decide)) (xfr g2) (xlo xsw0 (by decide) g3) (xKv hq (fun h4 hq e6 => ?_) (fun _ _ q _ => q))
  replace hq := hq e6
  exact uX12_checkRoutine_150 hq
set_option maxRecDepth 100000 in
def bX12_checkRoutine_109 (G : xG) (fr lo : Nat) (x0 : Nat) (x2 : Int32) (x3 : Int32) (x4 : Int32) (x5 : Int32) (x6 : Int32) (x7 : Nat) (h : xH) (Q : Outcome → xH → Prop) : Prop := tg h x0 = 13 ∧ tg h (fR h x0 3106) = 100 ∧ vp_in x4 (ln h (fR h x0 3106)) ∧ (((aI h (fR h x0 3106) (Int32.toNatClampNeg x4)) = 1 → bX12_checkRoutine_143 G fr lo x0 x2 x3 x6 x7 h Q) ∧ (¬ (aI h (fR h x0 3106) (Int32.toNatClampNeg x4)) = 1 → tg h (fR h x0 3101) = 100 ∧ vp_in x5 (ln h (fR h x0 3101)) ∧ (((aI h (fR h x0 3101) (Int32.toNatClampNeg x5)) = 4 → bX12_checkRoutine_143 G fr lo x0 x2 x3 x6 x7 h Q) ∧ (¬ (aI h (fR h x0 3101) (Int32.toNatClampNeg x5)) = 4 → vp_in x6 (ln h (fR h x0 3101)) ∧ ((¬ (aI h (fR h x0 3101) (Int32.toNatClampNeg x6)) = 9 → bX12_checkRoutine_150 G fr lo x0 x2 x3 x6 x7 h Q) ∧ ((aI h (fR h x0 3101) (Int32.toNatClampNeg x6)) = 9 → bX12_checkRoutine_143 G fr lo x0 x2 x3 x6 x7 h Q))))))
set_option maxRecDepth 100000 in
theorem uX12_checkRoutine_109 {G : xG} {fr lo : Nat} {x0 : Nat} {x2 : Int32} {x3 : Int32} {x4 : Int32} {x5 : Int32} {x6 : Int32} {x7 : Nat} {h : xH} {Q : Outcome → xH → Prop} (hq : bX12_checkRoutine_109 G fr lo x0 x2 x3 x4 x5 x6 x7 h Q) : xP G YX12_checkRoutine fr lo 109 [(0, rv x0), (2, .int x2), (3, .int x3), (4, .int x4), (5, .int x5), (6, .int x6), (7, rv x7)] [] h Q := by
  unfold bX12_checkRoutine_109 at hq
  refine x_aload_n 0 dX12_checkRoutine_109 rfl ?_
  obtain ⟨g1, hq⟩ := hq
  refine x_get (v := rv (fR h x0 3106)) fdX12_82 dX12_checkRoutine_110 g1 rfl ?_
  refine x_iload 3 dX12_checkRoutine_113 rfl ?_
  obtain ⟨g2, hq⟩ := hq
  obtain ⟨i3, hq⟩ := hq
  refine x_iald 0 (Or.inl rfl) g2 i3 dX12_checkRoutine_115 ?_
  refine x_iconst (v := 1) dX12_checkRoutine_116 (by decide) ?_
  refine x_icmp_eq (tgt := 143) dX12_checkRoutine_117 (by decide) (fun c4 => ?_) (fun c4 => ?_)
  · replace hq := hq.1 c4
    refine xP.pick (lv' := [(0, rv x0), (2, .int x2), (3, .int x3), (6, .int x6), (7, rv x7)]) [0, 1, 2, 5, 6] rfl ?_
    exact uX12_checkRoutine_143 hq
  · replace hq := hq.2 c4
    refine x_aload_n 0 dX12_checkRoutine_120 rfl ?_
    refine x_get (v := rv (fR h x0 3101)) fdX12_67 dX12_checkRoutine_121 g1 rfl ?_
    refine x_iload 4 dX12_checkRoutine_124 rfl ?_
    obtain ⟨g5, hq⟩ := hq
    obtain ⟨i6, hq⟩ := hq
    refine x_iald 0 (Or.inl rfl) g5 i6 dX12_checkRoutine_126 ?_
    refine x_iconst (v := 4) dX12_checkRoutine_127 (by decide) ?_
    refine x_icmp_eq (tgt := 143) dX12_checkRoutine_128 (by decide) (fun c7 => ?_) (fun c7 => ?_)
    · replace hq := hq.1 c7
      refine xP.pick (lv' := [(0, rv x0), (2, .int x2), (3, .int x3), (6, .int x6), (7, rv x7)]) [0, 1, 2, 5, 6] rfl ?_
      exact uX12_checkRoutine_143 hq
    · replace hq := hq.2 c7
      refine x_aload_n 0 dX12_checkRoutine_131 rfl ?_
      refine x_get (v := rv (fR h x0 3101)) fdX12_67 dX12_checkRoutine_132 g1 rfl ?_
      refine x_iload 5 dX12_checkRoutine_135 rfl ?_
      obtain ⟨i8, hq⟩ := hq
      refine x_iald 0 (Or.inl rfl) g5 i8 dX12_checkRoutine_137 ?_
      refine x_bipush (v := 9) dX12_checkRoutine_138 (by decide) ?_
      refine x_icmp_ne (tgt := 150) dX12_checkRoutine_140 (by decide) (fun c9 => ?_) (fun c9 => ?_)
      · replace hq := hq.1 c9
        refine xP.pick (lv' := [(0, rv x0), (2, .int x2), (3, .int x3), (6, .int x6), (7, rv x7)]) [0, 1, 2, 5, 6] rfl ?_
        exact uX12_checkRoutine_150 hq
      · replace hq := hq.2 c9
        refine xP.pick (lv' := [(0, rv x0), (2, .int x2), (3, .int x3), (6, .int x6), (7, rv x7)]) [0, 1, 2, 5, 6] rfl ?_
        exact uX12_checkRoutine_143 hq
set_option maxRecDepth 100000 in
def bX12_checkRoutine_22 (G : xG) (fr lo : Nat) (x0 : Nat) (x1 : Int32) (x2 : Int32) (s0 : Int32) (h : xH) (Q : Outcome → xH → Prop) : Prop := tg h x0 = 13 ∧ tg h (fR h x0 3103) = 100 ∧ vp_in x1 (ln h (fR h x0 3103)) ∧ 1 ≤ fr ∧ 16 ≤ lo ∧ xRi G YX12_child (fr - 1) (lo - 16) [rv x0, .int x1, .int 1] h (fun x7 h6 => xext h h6 → 1 ≤ fr ∧ 16 ≤ lo ∧ xRi G YX12_child (fr - 1) (lo - 16) [rv x0, .int x1, .int 2] h6 (fun x13 h12 => xext h6 h12 → 1 ≤ fr ∧ 13 ≤ lo ∧ xRr G YX12_here (fr - 1) (lo - 13) [rv x0] h12 (fun x19 h18 => xext h12 h18 → tg h18 (fR h18 x0 3084) = 100 ∧ vp_in x2 (ln h18 (fR h18 x0 3084)) ∧ 1 ≤ fr ∧ 15 ≤ lo ∧ xRr G YX12_inRegion (fr - 1) (lo - 15) [rv x0, rv x19, .int (aI h18 (fR h18 x0 3084) (Int32.toNatClampNeg x2))] h18 (fun x27 h26 => xext h18 h26 → ((x27 = 0 → bX12_checkRoutine_163 G fr lo x0 x2 s0 (aI h (fR h x0 3103) (Int32.toNatClampNeg x1)) x7 x13 h26 Q) ∧ (¬ x27 = 0 → tg h26 x27 = 24 ∧ ((¬ (fI h26 x27 5888) = 5 → bX12_checkRoutine_163 G fr lo x0 x2 s0 (aI h (fR h x0 3103) (Int32.toNatClampNeg x1)) x7 x13 h26 Q) ∧ ((fI h26 x27 5888) = 5 → (((fI h26 x27 5906) = 0 → bX12_checkRoutine_163 G fr lo x0 x2 s0 (aI h (fR h x0 3103) (Int32.toNatClampNeg x1)) x7 x13 h26 Q) ∧ (¬ (fI h26 x27 5906) = 0 → ((¬ (fI h26 x27 5907) = 0 → bX12_checkRoutine_163 G fr lo x0 x2 s0 (aI h (fR h x0 3103) (Int32.toNatClampNeg x1)) x7 x13 h26 Q) ∧ ((fI h26 x27 5907) = 0 → (((fI h26 x27 5905) = s0 → bX12_checkRoutine_109 G fr lo x0 x2 s0 (aI h (fR h x0 3103) (Int32.toNatClampNeg x1)) x7 x13 x27 h26 Q) ∧ (¬ (fI h26 x27 5905) = s0 → 1 ≤ fr ∧ 14 ≤ lo ∧ xRv G YX12_refuse (fr - 1) (lo - 14) [rv x0, .int 6, .int x2] h26 (fun h38 => xext h26 h38 → bX12_checkRoutine_109 G fr lo x0 x2 s0 (aI h (fR h x0 3103) (Int32.toNatClampNeg x1)) x7 x13 x27 h38 Q) (fun r h2 => Q (.threw r) h2)))))))))))) (fun r h2 => Q (.threw r) h2)) (fun r h2 => Q (.threw r) h2)) (fun r h2 => Q (.threw r) h2)) (fun r h2 => Q (.threw r) h2)
set_option maxRecDepth 100000 in
theorem uX12_checkRoutine_22 {G : xG} {fr lo : Nat} {x0 : Nat} {x1 : Int32} {x2 : Int32} {s0 : Int32} {h : xH} {Q : Outcome → xH → Prop} (hq : bX12_checkRoutine_22 G fr lo x0 x1 x2 s0 h Q) : xP G YX12_checkRoutine fr lo 22 [(0, rv x0), (1, .int x1), (2, .int x2)] [.int s0] h Q := by
  unfold bX12_checkRoutine_22 at hq
  refine x_istore_n (lv' := [(3, .int s0), (0, rv x0), (1, .int x1), (2, .int x2)]) dX12_checkRoutine_22 (by decide) rfl ?_
  refine x_aload_n 1 dX12_checkRoutine_23 rfl ?_
  obtain ⟨g1, hq⟩ := hq
  refine x_get (v := rv (fR h x0 3103)) fdX12_73 dX12_checkRoutine_24 g1 rfl ?_
  refine x_iload_n 2 dX12_checkRoutine_27 rfl ?_
  obtain ⟨g2, hq⟩ := hq
  obtain ⟨i3, hq⟩ := hq
  refine x_iald 0 (Or.inl rfl) g2 i3 dX12_checkRoutine_28 ?_
  refine x_istore (lv' := [(4, .int (aI h (fR h x0 3103) (Int32.toNatClampNeg x1))), (3, .int s0), (0, rv x0), (1, .int x1), (2, .int x2)]) dX12_checkRoutine_29 (by decide) rfl ?_
  refine x_aload_n 2 dX12_checkRoutine_31 rfl ?_
  refine x_iload_n 3 dX12_checkRoutine_32 rfl ?_
  refine x_iconst (v := 1) dX12_checkRoutine_33 (by decide) ?_
  obtain ⟨g4, g5, hq⟩ := hq
  refine x_callV (Yc := YX12_child) (as := [.int x1, .int 1]) (st := []) q4126 mvX12_child g1 rfl dX12_checkRoutine_34 (xle (xal1 (rv_cat _) (xal1 rfl (xal1 rfl xal0))) (by decide)) (xfr g4) (xlo xsw0 (by decide) g5) (xKi hq (fun x7 h6 hq e8 => ?_) (fun _ _ q _ => q))
  replace hq := hq e8
  refine x_istore (lv' := [(5, .int x7), (4, .int (aI h (fR h x0 3103) (Int32.toNatClampNeg x1))), (3, .int s0), (0, rv x0), (1, .int x1), (2, .int x2)]) dX12_checkRoutine_37 (by decide) rfl ?_
  refine x_aload_n 3 dX12_checkRoutine_39 rfl ?_
  refine x_iload_n 4 dX12_checkRoutine_40 rfl ?_
  refine x_iconst (v := 2) dX12_checkRoutine_41 (by decide) ?_
  have t9 : tg h6 x0 = 13 := e8.tg g1 (by decide)
  obtain ⟨g10, g11, hq⟩ := hq
  refine x_callV (Yc := YX12_child) (as := [.int x1, .int 2]) (st := []) q4126 mvX12_child t9 rfl dX12_checkRoutine_42 (xle (xal1 (rv_cat _) (xal1 rfl (xal1 rfl xal0))) (by decide)) (xfr g10) (xlo xsw0 (by decide) g11) (xKi hq (fun x13 h12 hq e14 => ?_) (fun _ _ q _ => q))
  replace hq := hq e14
  refine x_istore (lv' := [(6, .int x13), (5, .int x7), (4, .int (aI h (fR h x0 3103) (Int32.toNatClampNeg x1))), (3, .int s0), (0, rv x0), (1, .int x1), (2, .int x2)]) dX12_checkRoutine_45 (by decide) rfl ?_
  refine x_aload_n 4 dX12_checkRoutine_47 rfl ?_
  refine x_aload_n 4 dX12_checkRoutine_48 rfl ?_
  have t15 : tg h12 x0 = 13 := e14.tg t9 (by decide)
  obtain ⟨g16, g17, hq⟩ := hq
  refine x_callV (Yc := YX12_here) (as := []) (st := [rv x0]) q4105 mvX12_here t15 rfl dX12_checkRoutine_49 (xle (xal1 (rv_cat _) xal0) (by decide)) (xfr g16) (xlo (xsw1 (rv_cat _) xsw0) (by decide) g17) (xKr hq (fun x19 h18 hq e20 => ?_) (fun _ _ q _ => q))
  replace hq := hq e20
  refine x_aload_n 4 dX12_checkRoutine_52 rfl ?_
  have t21 : tg h18 x0 = 13 := e20.tg t15 (by decide)
  refine x_get (v := rv (fR h18 x0 3084)) fdX12_32 dX12_checkRoutine_53 t21 rfl ?_
  refine x_iload_n 6 dX12_checkRoutine_56 rfl ?_
  obtain ⟨g22, hq⟩ := hq
  obtain ⟨i23, hq⟩ := hq
  refine x_iald 0 (Or.inl rfl) g22 i23 dX12_checkRoutine_57 ?_
  obtain ⟨g24, g25, hq⟩ := hq
  refine x_callV (Yc := YX12_inRegion) (as := [rv x19, .int (aI h18 (fR h18 x0 3084) (Int32.toNatClampNeg x2))]) (st := []) q4114 mvX12_inRegion t21 rfl dX12_checkRoutine_58 (xle (xal1 (rv_cat _) (xal1 (rv_cat _) (xal1 rfl xal0))) (by decide)) (xfr g24) (xlo xsw0 (by decide) g25) (xKr hq (fun x27 h26 hq e28 => ?_) (fun _ _ q _ => q))
  replace hq := hq e28
  refine x_astore (lv' := [(7, rv x27), (6, .int x13), (5, .int x7), (4, .int (aI h (fR h x0 3103) (Int32.toNatClampNeg x1))), (3, .int s0), (0, rv x0), (1, .int x1), (2, .int x2)]) dX12_checkRoutine_61 (by decide) rfl ?_
  refine x_aload 0 dX12_checkRoutine_63 rfl ?_
  refine x_ifnull (tgt := 163) dX12_checkRoutine_65 (by decide) (fun c29 => ?_) (fun c29 => ?_)
  · replace hq := hq.1 c29
    refine xP.pick (lv' := [(0, rv x0), (2, .int x2), (3, .int s0), (4, .int (aI h (fR h x0 3103) (Int32.toNatClampNeg x1))), (5, .int x7), (6, .int x13)]) [5, 7, 4, 3, 2, 1] rfl ?_
    exact uX12_checkRoutine_163 hq
  · replace hq := hq.2 c29
    refine x_aload 0 dX12_checkRoutine_68 rfl ?_
    obtain ⟨g30, hq⟩ := hq
    refine x_get (v := .int (fI h26 x27 5888)) fdX12_577 dX12_checkRoutine_70 g30 rfl ?_
    refine x_iconst (v := 5) dX12_checkRoutine_73 (by decide) ?_
    refine x_icmp_ne (tgt := 163) dX12_checkRoutine_74 (by decide) (fun c31 => ?_) (fun c31 => ?_)
    · replace hq := hq.1 c31
      refine xP.pick (lv' := [(0, rv x0), (2, .int x2), (3, .int s0), (4, .int (aI h (fR h x0 3103) (Int32.toNatClampNeg x1))), (5, .int x7), (6, .int x13)]) [5, 7, 4, 3, 2, 1] rfl ?_
      exact uX12_checkRoutine_163 hq
    · replace hq := hq.2 c31
      refine x_aload 0 dX12_checkRoutine_77 rfl ?_
      refine x_get (v := .int (fI h26 x27 5906)) fdX12_796 dX12_checkRoutine_79 g30 rfl ?_
      refine x_if_eq (tgt := 163) dX12_checkRoutine_82 (by decide) (fun c32 => ?_) (fun c32 => ?_)
      · replace hq := hq.1 c32
        refine xP.pick (lv' := [(0, rv x0), (2, .int x2), (3, .int s0), (4, .int (aI h (fR h x0 3103) (Int32.toNatClampNeg x1))), (5, .int x7), (6, .int x13)]) [5, 7, 4, 3, 2, 1] rfl ?_
        exact uX12_checkRoutine_163 hq
      · replace hq := hq.2 c32
        refine x_aload 0 dX12_checkRoutine_85 rfl ?_
        refine x_get (v := .int (fI h26 x27 5907)) fdX12_799 dX12_checkRoutine_87 g30 rfl ?_
        refine x_if_ne (tgt := 163) dX12_checkRoutine_90 (by decide) (fun c33 => ?_) (fun c33 => ?_)
        · replace hq := hq.1 c33
          refine xP.pick (lv' := [(0, rv x0), (2, .int x2), (3, .int s0), (4, .int (aI h (fR h x0 3103) (Int32.toNatClampNeg x1))), (5, .int x7), (6, .int x13)]) [5, 7, 4, 3, 2, 1] rfl ?_
          exact uX12_checkRoutine_163 hq
        · replace hq := hq.2 c33
          refine x_aload 0 dX12_checkRoutine_93 rfl ?_
          refine x_get (v := .int (fI h26 x27 5905)) fdX12_635 dX12_checkRoutine_95 g30 rfl ?_
          refine x_iload_n 4 dX12_checkRoutine_98 rfl ?_
          refine x_icmp_eq (tgt := 109) dX12_checkRoutine_99 (by decide) (fun c34 => ?_) (fun c34 => ?_)
          · replace hq := hq.1 c34
            refine xP.pick (lv' := [(0, rv x0), (2, .int x2), (3, .int s0), (4, .int (aI h (fR h x0 3103) (Int32.toNatClampNeg x1))), (5, .int x7), (6, .int x13), (7, rv x27)]) [5, 7, 4, 3, 2, 1, 0] rfl ?_
            exact uX12_checkRoutine_109 hq
          · replace hq := hq.2 c34
            refine x_aload_n 5 dX12_checkRoutine_102 rfl ?_
            refine x_bipush (v := 6) dX12_checkRoutine_103 (by decide) ?_
            refine x_iload_n 7 dX12_checkRoutine_105 rfl ?_
            have t35 : tg h26 x0 = 13 := e28.tg t21 (by decide)
            obtain ⟨g36, g37, hq⟩ := hq
            refine x_callV (Yc := YX12_refuse) (as := [.int 6, .int x2]) (st := []) q4095 mvX12_refuse t35 rfl dX12_checkRoutine_106 (xle (xal1 (rv_cat _) (xal1 rfl (xal1 rfl xal0))) (by decide)) (xfr g36) (xlo xsw0 (by decide) g37) (xKv hq (fun h38 hq e40 => ?_) (fun _ _ q _ => q))
            replace hq := hq e40
            refine xP.pick (lv' := [(0, rv x0), (2, .int x2), (3, .int s0), (4, .int (aI h (fR h x0 3103) (Int32.toNatClampNeg x1))), (5, .int x7), (6, .int x13), (7, rv x27)]) [5, 7, 4, 3, 2, 1, 0] rfl ?_
            exact uX12_checkRoutine_109 hq
set_option maxRecDepth 100000 in
def bX12_checkRoutine (G : xG) (fr lo : Nat) (x0 : Nat) (x1 : Int32) (h : xH) (Q : Outcome → xH → Prop) : Prop := tg h x0 = 13 ∧ tg h (fR h x0 3102) = 100 ∧ vp_in x1 (ln h (fR h x0 3102)) ∧ tg h (fR h x0 3106) = 100 ∧ vp_in x1 (ln h (fR h x0 3106)) ∧ ((¬ (aI h (fR h x0 3106) (Int32.toNatClampNeg x1)) = 1 → bX12_checkRoutine_22 G fr lo x0 x1 (aI h (fR h x0 3102) (Int32.toNatClampNeg x1)) 0 h Q) ∧ ((aI h (fR h x0 3106) (Int32.toNatClampNeg x1)) = 1 → bX12_checkRoutine_22 G fr lo x0 x1 (aI h (fR h x0 3102) (Int32.toNatClampNeg x1)) 1 h Q))
set_option maxRecDepth 100000 in
theorem uX12_checkRoutine {G : xG} {fr lo : Nat} {x0 : Nat} {x1 : Int32} {h : xH} {Q : Outcome → xH → Prop} (hq : bX12_checkRoutine G fr lo x0 x1 h Q) : xP G YX12_checkRoutine fr lo 0 [(0, rv x0), (1, .int x1)] [] h Q := by
  unfold bX12_checkRoutine at hq
  refine x_aload_n 0 dX12_checkRoutine_0 rfl ?_
  obtain ⟨g1, hq⟩ := hq
  refine x_get (v := rv (fR h x0 3102)) fdX12_70 dX12_checkRoutine_1 g1 rfl ?_
  refine x_iload_n 1 dX12_checkRoutine_4 rfl ?_
  obtain ⟨g2, hq⟩ := hq
  obtain ⟨i3, hq⟩ := hq
  refine x_iald 0 (Or.inl rfl) g2 i3 dX12_checkRoutine_5 ?_
  refine x_istore_n (lv' := [(2, .int (aI h (fR h x0 3102) (Int32.toNatClampNeg x1))), (0, rv x0), (1, .int x1)]) dX12_checkRoutine_6 (by decide) rfl ?_
  refine x_aload_n 1 dX12_checkRoutine_7 rfl ?_
  refine x_get (v := rv (fR h x0 3106)) fdX12_82 dX12_checkRoutine_8 g1 rfl ?_
  refine x_iload_n 2 dX12_checkRoutine_11 rfl ?_
  obtain ⟨g4, hq⟩ := hq
  obtain ⟨i5, hq⟩ := hq
  refine x_iald 0 (Or.inl rfl) g4 i5 dX12_checkRoutine_12 ?_
  refine x_iconst (v := 1) dX12_checkRoutine_13 (by decide) ?_
  refine x_icmp_ne (tgt := 21) dX12_checkRoutine_14 (by decide) (fun c6 => ?_) (fun c6 => ?_)
  · replace hq := hq.1 c6
    refine x_iconst (v := 0) dX12_checkRoutine_21 (by decide) ?_
    refine xP.pick (lv' := [(0, rv x0), (1, .int x1), (2, .int (aI h (fR h x0 3102) (Int32.toNatClampNeg x1)))]) [1, 2, 0] rfl ?_
    exact uX12_checkRoutine_22 hq
  · replace hq := hq.2 c6
    refine x_iconst (v := 1) dX12_checkRoutine_17 (by decide) ?_
    refine x_goto (tgt := 22) dX12_checkRoutine_18 (by decide) ?_
    refine xP.pick (lv' := [(0, rv x0), (1, .int x1), (2, .int (aI h (fR h x0 3102) (Int32.toNatClampNeg x1)))]) [1, 2, 0] rfl ?_
    exact uX12_checkRoutine_22 hq
theorem rX12_checkRoutine {G : xG} {fr lo : Nat} {x0 : Nat} {x1 : Int32} {h : xH} {Q : Outcome → xH → Prop} (hq : bX12_checkRoutine G fr lo x0 x1 h Q) : xR G YX12_checkRoutine fr lo [rv x0, .int x1] h Q := by
  show xP _ _ _ _ _ (lv_args 0 _) _ _ _
  rw [show lv_args 0 [rv x0, .int x1] = [(0, rv x0), (1, .int x1)] from (xla1 (rv_cat _) (xla1 rfl xla0))]
  exact uX12_checkRoutine hq
set_option maxRecDepth 100000 in
theorem dX12_parameters_0 : decode cX12_parameters 0 = .ok (.aload_n 0, 1) := by decide +kernel
set_option maxRecDepth 100000 in
theorem dX12_parameters_1 : decode cX12_parameters 1 = .ok (.getfield 73, 3) := by decide +kernel
set_option maxRecDepth 100000 in
theorem dX12_parameters_4 : decode cX12_parameters 4 = .ok (.iload_n 1, 1) := by decide +kernel
set_option maxRecDepth 100000 in
theorem dX12_parameters_5 : decode cX12_parameters 5 = .ok (.iaload, 1) := by decide +kernel
set_option maxRecDepth 100000 in
theorem dX12_parameters_6 : decode cX12_parameters 6 = .ok (.istore 4, 2) := by decide +kernel
set_option maxRecDepth 100000 in
theorem dX12_parameters_8 : decode cX12_parameters 8 = .ok (.iload 4, 2) := by decide +kernel
set_option maxRecDepth 100000 in
theorem dX12_parameters_10 : decode cX12_parameters 10 = .ok (.iconst (-1), 1) := by decide +kernel
set_option maxRecDepth 100000 in
theorem dX12_parameters_11 : decode cX12_parameters 11 = .ok (.if_icmp .eq 383, 3) := by decide +kernel
set_option maxRecDepth 100000 in
theorem dX12_parameters_14 : decode cX12_parameters 14 = .ok (.aload_n 0, 1) := by decide +kernel
set_option maxRecDepth 100000 in
theorem dX12_parameters_15 : decode cX12_parameters 15 = .ok (.getfield 82, 3) := by decide +kernel
set_option maxRecDepth 100000 in
theorem dX12_parameters_18 : decode cX12_parameters 18 = .ok (.iload 4, 2) := by decide +kernel
set_option maxRecDepth 100000 in
theorem dX12_parameters_20 : decode cX12_parameters 20 = .ok (.iaload, 1) := by decide +kernel
set_option maxRecDepth 100000 in
theorem dX12_parameters_21 : decode cX12_parameters 21 = .ok (.iconst 1, 1) := by decide +kernel
set_option maxRecDepth 100000 in
theorem dX12_parameters_22 : decode cX12_parameters 22 = .ok (.if_icmp .le 203, 3) := by decide +kernel
set_option maxRecDepth 100000 in
theorem dX12_parameters_25 : decode cX12_parameters 25 = .ok (.new 100, 3) := by decide +kernel
set_option maxRecDepth 100000 in
theorem dX12_parameters_28 : decode cX12_parameters 28 = .ok (.dup, 1) := by decide +kernel
set_option maxRecDepth 100000 in
theorem dX12_parameters_29 : decode cX12_parameters 29 = .ok (.iconst 5, 1) := by decide +kernel
set_option maxRecDepth 100000 in
theorem dX12_parameters_30 : decode cX12_parameters 30 = .ok (.aload_n 0, 1) := by decide +kernel
set_option maxRecDepth 100000 in
theorem dX12_parameters_31 : decode cX12_parameters 31 = .ok (.getfield 32, 3) := by decide +kernel
set_option maxRecDepth 100000 in
theorem dX12_parameters_34 : decode cX12_parameters 34 = .ok (.aload_n 0, 1) := by decide +kernel
set_option maxRecDepth 100000 in
theorem dX12_parameters_35 : decode cX12_parameters 35 = .ok (.getfield 70, 3) := by decide +kernel
set_option maxRecDepth 100000 in
theorem dX12_parameters_38 : decode cX12_parameters 38 = .ok (.iload 4, 2) := by decide +kernel
set_option maxRecDepth 100000 in
theorem dX12_parameters_40 : decode cX12_parameters 40 = .ok (.iaload, 1) := by decide +kernel
set_option maxRecDepth 100000 in
theorem dX12_parameters_41 : decode cX12_parameters 41 = .ok (.iaload, 1) := by decide +kernel
set_option maxRecDepth 100000 in
theorem dX12_parameters_42 : decode cX12_parameters 42 = .ok (.invokespecial 585, 3) := by decide +kernel
set_option maxRecDepth 100000 in
theorem dX12_parameters_45 : decode cX12_parameters 45 = .ok (.astore 5, 2) := by decide +kernel
set_option maxRecDepth 100000 in
theorem dX12_parameters_47 : decode cX12_parameters 47 = .ok (.aload 5, 2) := by decide +kernel
set_option maxRecDepth 100000 in
theorem dX12_parameters_49 : decode cX12_parameters 49 = .ok (.new 131, 3) := by decide +kernel
set_option maxRecDepth 100000 in
theorem dX12_parameters_52 : decode cX12_parameters 52 = .ok (.dup, 1) := by decide +kernel
set_option maxRecDepth 100000 in
theorem dX12_parameters_53 : decode cX12_parameters 53 = .ok (.invokespecial 133, 3) := by decide +kernel
set_option maxRecDepth 100000 in
theorem dX12_parameters_56 : decode cX12_parameters 56 = .ok (.putfield 923, 3) := by decide +kernel
set_option maxRecDepth 100000 in
theorem dX12_parameters_59 : decode cX12_parameters 59 = .ok (.aload_n 0, 1) := by decide +kernel
set_option maxRecDepth 100000 in
theorem dX12_parameters_60 : decode cX12_parameters 60 = .ok (.aload 5, 2) := by decide +kernel
set_option maxRecDepth 100000 in
theorem dX12_parameters_62 : decode cX12_parameters 62 = .ok (.getfield 923, 3) := by decide +kernel
set_option maxRecDepth 100000 in
theorem dX12_parameters_65 : decode cX12_parameters 65 = .ok (.iconst (-1), 1) := by decide +kernel
set_option maxRecDepth 100000 in
theorem dX12_parameters_66 : decode cX12_parameters 66 = .ok (.invokevirtual 639, 3) := by decide +kernel
set_option maxRecDepth 100000 in
theorem dX12_parameters_69 : decode cX12_parameters 69 = .ok (.aload_n 0, 1) := by decide +kernel
set_option maxRecDepth 100000 in
theorem dX12_parameters_70 : decode cX12_parameters 70 = .ok (.aload_n 0, 1) := by decide +kernel
set_option maxRecDepth 100000 in
theorem dX12_parameters_71 : decode cX12_parameters 71 = .ok (.getfield 73, 3) := by decide +kernel
set_option maxRecDepth 100000 in
theorem dX12_parameters_74 : decode cX12_parameters 74 = .ok (.iload 4, 2) := by decide +kernel
set_option maxRecDepth 100000 in
theorem dX12_parameters_76 : decode cX12_parameters 76 = .ok (.iaload, 1) := by decide +kernel
set_option maxRecDepth 100000 in
theorem dX12_parameters_77 : decode cX12_parameters 77 = .ok (.aload 5, 2) := by decide +kernel
set_option maxRecDepth 100000 in
theorem dX12_parameters_79 : decode cX12_parameters 79 = .ok (.iload_n 3, 1) := by decide +kernel
set_option maxRecDepth 100000 in
theorem dX12_parameters_80 : decode cX12_parameters 80 = .ok (.iconst 1, 1) := by decide +kernel
set_option maxRecDepth 100000 in
theorem dX12_parameters_81 : decode cX12_parameters 81 = .ok (.iadd, 1) := by decide +kernel
set_option maxRecDepth 100000 in
theorem dX12_parameters_82 : decode cX12_parameters 82 = .ok (.invokevirtual 929, 3) := by decide +kernel
set_option maxRecDepth 100000 in
theorem dX12_parameters_85 : decode cX12_parameters 85 = .ok (.aload_n 0, 1) := by decide +kernel
set_option maxRecDepth 100000 in
theorem dX12_parameters_86 : decode cX12_parameters 86 = .ok (.getfield 82, 3) := by decide +kernel
set_option maxRecDepth 100000 in
theorem dX12_parameters_89 : decode cX12_parameters 89 = .ok (.iload 4, 2) := by decide +kernel
set_option maxRecDepth 100000 in
theorem dX12_parameters_91 : decode cX12_parameters 91 = .ok (.iaload, 1) := by decide +kernel
set_option maxRecDepth 100000 in
theorem dX12_parameters_92 : decode cX12_parameters 92 = .ok (.iconst 3, 1) := by decide +kernel
set_option maxRecDepth 100000 in
theorem dX12_parameters_93 : decode cX12_parameters 93 = .ok (.if_icmp .ne 17, 3) := by decide +kernel
set_option maxRecDepth 100000 in
theorem dX12_parameters_96 : decode cX12_parameters 96 = .ok (.aload_n 0, 1) := by decide +kernel
set_option maxRecDepth 100000 in
theorem dX12_parameters_97 : decode cX12_parameters 97 = .ok (.aload_n 0, 1) := by decide +kernel
set_option maxRecDepth 100000 in
theorem dX12_parameters_98 : decode cX12_parameters 98 = .ok (.iload 4, 2) := by decide +kernel
set_option maxRecDepth 100000 in
theorem dX12_parameters_100 : decode cX12_parameters 100 = .ok (.iconst 1, 1) := by decide +kernel
set_option maxRecDepth 100000 in
theorem dX12_parameters_101 : decode cX12_parameters 101 = .ok (.invokevirtual 734, 3) := by decide +kernel
set_option maxRecDepth 100000 in
theorem dX12_parameters_104 : decode cX12_parameters 104 = .ok (.invokevirtual 933, 3) := by decide +kernel
set_option maxRecDepth 100000 in
theorem dX12_parameters_107 : decode cX12_parameters 107 = .ok (.goto 4, 3) := by decide +kernel
set_option maxRecDepth 100000 in
theorem dX12_parameters_110 : decode cX12_parameters 110 = .ok (.aconst_null, 1) := by decide +kernel
set_option maxRecDepth 100000 in
theorem dX12_parameters_111 : decode cX12_parameters 111 = .ok (.astore 6, 2) := by decide +kernel
set_option maxRecDepth 100000 in
theorem dX12_parameters_113 : decode cX12_parameters 113 = .ok (.aload_n 0, 1) := by decide +kernel
set_option maxRecDepth 100000 in
theorem dX12_parameters_114 : decode cX12_parameters 114 = .ok (.invokevirtual 746, 3) := by decide +kernel
set_option maxRecDepth 100000 in
theorem dX12_parameters_117 : decode cX12_parameters 117 = .ok (.pop, 1) := by decide +kernel
set_option maxRecDepth 100000 in
theorem dX12_parameters_118 : decode cX12_parameters 118 = .ok (.aload_n 0, 1) := by decide +kernel
set_option maxRecDepth 100000 in
theorem dX12_parameters_119 : decode cX12_parameters 119 = .ok (.iconst 5, 1) := by decide +kernel
set_option maxRecDepth 100000 in
theorem dX12_parameters_120 : decode cX12_parameters 120 = .ok (.aload_n 0, 1) := by decide +kernel
set_option maxRecDepth 100000 in
theorem dX12_parameters_121 : decode cX12_parameters 121 = .ok (.getfield 70, 3) := by decide +kernel
set_option maxRecDepth 100000 in
theorem dX12_parameters_124 : decode cX12_parameters 124 = .ok (.iload 4, 2) := by decide +kernel
set_option maxRecDepth 100000 in
theorem dX12_parameters_126 : decode cX12_parameters 126 = .ok (.iaload, 1) := by decide +kernel
set_option maxRecDepth 100000 in
theorem dX12_parameters_127 : decode cX12_parameters 127 = .ok (.aload_n 2, 1) := by decide +kernel
set_option maxRecDepth 100000 in
theorem dX12_parameters_128 : decode cX12_parameters 128 = .ok (.iload_n 3, 1) := by decide +kernel
set_option maxRecDepth 100000 in
theorem dX12_parameters_129 : decode cX12_parameters 129 = .ok (.invokevirtual 954, 3) := by decide +kernel
set_option maxRecDepth 100000 in
theorem dX12_parameters_132 : decode cX12_parameters 132 = .ok (.astore 7, 2) := by decide +kernel
set_option maxRecDepth 100000 in
theorem dX12_parameters_134 : decode cX12_parameters 134 = .ok (.aload 7, 2) := by decide +kernel
set_option maxRecDepth 100000 in
theorem dX12_parameters_136 : decode cX12_parameters 136 = .ok (.iconst 1, 1) := by decide +kernel
set_option maxRecDepth 100000 in
theorem dX12_parameters_137 : decode cX12_parameters 137 = .ok (.putfield 958, 3) := by decide +kernel
set_option maxRecDepth 100000 in
theorem dX12_parameters_140 : decode cX12_parameters 140 = .ok (.aload 7, 2) := by decide +kernel
set_option maxRecDepth 100000 in
theorem dX12_parameters_142 : decode cX12_parameters 142 = .ok (.aload_n 0, 1) := by decide +kernel
set_option maxRecDepth 100000 in
theorem dX12_parameters_143 : decode cX12_parameters 143 = .ok (.getfield 82, 3) := by decide +kernel
set_option maxRecDepth 100000 in
theorem dX12_parameters_146 : decode cX12_parameters 146 = .ok (.iload 4, 2) := by decide +kernel
set_option maxRecDepth 100000 in
theorem dX12_parameters_148 : decode cX12_parameters 148 = .ok (.iaload, 1) := by decide +kernel
set_option maxRecDepth 100000 in
theorem dX12_parameters_149 : decode cX12_parameters 149 = .ok (.iconst 3, 1) := by decide +kernel
set_option maxRecDepth 100000 in
theorem dX12_parameters_150 : decode cX12_parameters 150 = .ok (.if_icmp .ne 7, 3) := by decide +kernel
set_option maxRecDepth 100000 in
theorem dX12_parameters_153 : decode cX12_parameters 153 = .ok (.iconst 1, 1) := by decide +kernel
set_option maxRecDepth 100000 in
theorem dX12_parameters_154 : decode cX12_parameters 154 = .ok (.goto 4, 3) := by decide +kernel
set_option maxRecDepth 100000 in
theorem dX12_parameters_157 : decode cX12_parameters 157 = .ok (.iconst 0, 1) := by decide +kernel
set_option maxRecDepth 100000 in
theorem dX12_parameters_158 : decode cX12_parameters 158 = .ok (.putfield 635, 3) := by decide +kernel
set_option maxRecDepth 100000 in
theorem dX12_parameters_161 : decode cX12_parameters 161 = .ok (.aload 7, 2) := by decide +kernel
set_option maxRecDepth 100000 in
theorem dX12_parameters_163 : decode cX12_parameters 163 = .ok (.aload 6, 2) := by decide +kernel
set_option maxRecDepth 100000 in
theorem dX12_parameters_165 : decode cX12_parameters 165 = .ok (.putfield 612, 3) := by decide +kernel
set_option maxRecDepth 100000 in
theorem dX12_parameters_168 : decode cX12_parameters 168 = .ok (.iconst 0, 1) := by decide +kernel
set_option maxRecDepth 100000 in
theorem dX12_parameters_169 : decode cX12_parameters 169 = .ok (.istore 8, 2) := by decide +kernel
set_option maxRecDepth 100000 in
theorem dX12_parameters_171 : decode cX12_parameters 171 = .ok (.iload 8, 2) := by decide +kernel
set_option maxRecDepth 100000 in
theorem dX12_parameters_173 : decode cX12_parameters 173 = .ok (.aload 5, 2) := by decide +kernel
set_option maxRecDepth 100000 in
theorem dX12_parameters_175 : decode cX12_parameters 175 = .ok (.getfield 949, 3) := by decide +kernel
set_option maxRecDepth 100000 in
theorem dX12_parameters_178 : decode cX12_parameters 178 = .ok (.invokevirtual 554, 3) := by decide +kernel
set_option maxRecDepth 100000 in
theorem dX12_parameters_181 : decode cX12_parameters 181 = .ok (.if_icmp .ge 31, 3) := by decide +kernel
set_option maxRecDepth 100000 in
theorem dX12_parameters_184 : decode cX12_parameters 184 = .ok (.aload 7, 2) := by decide +kernel
set_option maxRecDepth 100000 in
theorem dX12_parameters_186 : decode cX12_parameters 186 = .ok (.getfield 949, 3) := by decide +kernel
set_option maxRecDepth 100000 in
theorem dX12_parameters_189 : decode cX12_parameters 189 = .ok (.aload 5, 2) := by decide +kernel
set_option maxRecDepth 100000 in
theorem dX12_parameters_191 : decode cX12_parameters 191 = .ok (.getfield 949, 3) := by decide +kernel
set_option maxRecDepth 100000 in
theorem dX12_parameters_194 : decode cX12_parameters 194 = .ok (.iload 8, 2) := by decide +kernel
set_option maxRecDepth 100000 in
theorem dX12_parameters_196 : decode cX12_parameters 196 = .ok (.invokevirtual 556, 3) := by decide +kernel
set_option maxRecDepth 100000 in
theorem dX12_parameters_199 : decode cX12_parameters 199 = .ok (.checkcast 100, 3) := by decide +kernel
set_option maxRecDepth 100000 in
theorem dX12_parameters_202 : decode cX12_parameters 202 = .ok (.invokevirtual 579, 3) := by decide +kernel
set_option maxRecDepth 100000 in
theorem dX12_parameters_205 : decode cX12_parameters 205 = .ok (.pop, 1) := by decide +kernel
set_option maxRecDepth 100000 in
theorem dX12_parameters_206 : decode cX12_parameters 206 = .ok (.iinc 8 1, 3) := by decide +kernel
set_option maxRecDepth 100000 in
theorem dX12_parameters_209 : decode cX12_parameters 209 = .ok (.goto (-38), 3) := by decide +kernel
set_option maxRecDepth 100000 in
theorem dX12_parameters_212 : decode cX12_parameters 212 = .ok (.aload_n 2, 1) := by decide +kernel
set_option maxRecDepth 100000 in
theorem dX12_parameters_213 : decode cX12_parameters 213 = .ok (.dup, 1) := by decide +kernel
set_option maxRecDepth 100000 in
theorem dX12_parameters_214 : decode cX12_parameters 214 = .ok (.getfield 936, 3) := by decide +kernel
set_option maxRecDepth 100000 in
theorem dX12_parameters_217 : decode cX12_parameters 217 = .ok (.iconst 1, 1) := by decide +kernel
set_option maxRecDepth 100000 in
theorem dX12_parameters_218 : decode cX12_parameters 218 = .ok (.iadd, 1) := by decide +kernel
set_option maxRecDepth 100000 in
theorem dX12_parameters_219 : decode cX12_parameters 219 = .ok (.putfield 936, 3) := by decide +kernel
set_option maxRecDepth 100000 in
theorem dX12_parameters_222 : decode cX12_parameters 222 = .ok (.goto 160, 3) := by decide +kernel
set_option maxRecDepth 100000 in
theorem dX12_parameters_225 : decode cX12_parameters 225 = .ok (.aload_n 0, 1) := by decide +kernel
set_option maxRecDepth 100000 in
theorem dX12_parameters_226 : decode cX12_parameters 226 = .ok (.getfield 70, 3) := by decide +kernel
set_option maxRecDepth 100000 in
theorem dX12_parameters_229 : decode cX12_parameters 229 = .ok (.aload_n 0, 1) := by decide +kernel
set_option maxRecDepth 100000 in
theorem dX12_parameters_230 : decode cX12_parameters 230 = .ok (.iload 4, 2) := by decide +kernel
set_option maxRecDepth 100000 in
theorem dX12_parameters_232 : decode cX12_parameters 232 = .ok (.iconst 1, 1) := by decide +kernel
set_option maxRecDepth 100000 in
theorem dX12_parameters_233 : decode cX12_parameters 233 = .ok (.invokevirtual 734, 3) := by decide +kernel
set_option maxRecDepth 100000 in
theorem dX12_parameters_236 : decode cX12_parameters 236 = .ok (.iaload, 1) := by decide +kernel
set_option maxRecDepth 100000 in
theorem dX12_parameters_237 : decode cX12_parameters 237 = .ok (.istore 5, 2) := by decide +kernel
set_option maxRecDepth 100000 in
theorem dX12_parameters_239 : decode cX12_parameters 239 = .ok (.aload_n 0, 1) := by decide +kernel
set_option maxRecDepth 100000 in
theorem dX12_parameters_240 : decode cX12_parameters 240 = .ok (.iload 5, 2) := by decide +kernel
set_option maxRecDepth 100000 in
theorem dX12_parameters_242 : decode cX12_parameters 242 = .ok (.iconst 2, 1) := by decide +kernel
set_option maxRecDepth 100000 in
theorem dX12_parameters_243 : decode cX12_parameters 243 = .ok (.invokevirtual 838, 3) := by decide +kernel
set_option maxRecDepth 100000 in
theorem dX12_parameters_246 : decode cX12_parameters 246 = .ok (.getfield 612, 3) := by decide +kernel
set_option maxRecDepth 100000 in
theorem dX12_parameters_249 : decode cX12_parameters 249 = .ok (.astore 6, 2) := by decide +kernel
set_option maxRecDepth 100000 in
theorem dX12_parameters_251 : decode cX12_parameters 251 = .ok (.aload_n 0, 1) := by decide +kernel
set_option maxRecDepth 100000 in
theorem dX12_parameters_252 : decode cX12_parameters 252 = .ok (.getfield 82, 3) := by decide +kernel
set_option maxRecDepth 100000 in
theorem dX12_parameters_255 : decode cX12_parameters 255 = .ok (.iload 4, 2) := by decide +kernel
set_option maxRecDepth 100000 in
theorem dX12_parameters_257 : decode cX12_parameters 257 = .ok (.iaload, 1) := by decide +kernel
set_option maxRecDepth 100000 in
theorem dX12_parameters_258 : decode cX12_parameters 258 = .ok (.ifCond .ne 21, 3) := by decide +kernel
set_option maxRecDepth 100000 in
theorem dX12_parameters_261 : decode cX12_parameters 261 = .ok (.aload 6, 2) := by decide +kernel
set_option maxRecDepth 100000 in
theorem dX12_parameters_263 : decode cX12_parameters 263 = .ok (.getfield 845, 3) := by decide +kernel
set_option maxRecDepth 100000 in
theorem dX12_parameters_266 : decode cX12_parameters 266 = .ok (.bipush 10, 2) := by decide +kernel
set_option maxRecDepth 100000 in
theorem dX12_parameters_268 : decode cX12_parameters 268 = .ok (.if_icmp .ne 11, 3) := by decide +kernel
set_option maxRecDepth 100000 in
theorem dX12_parameters_271 : decode cX12_parameters 271 = .ok (.aload_n 0, 1) := by decide +kernel
set_option maxRecDepth 100000 in
theorem dX12_parameters_272 : decode cX12_parameters 272 = .ok (.bipush 7, 2) := by decide +kernel
set_option maxRecDepth 100000 in
theorem dX12_parameters_274 : decode cX12_parameters 274 = .ok (.iload 5, 2) := by decide +kernel
set_option maxRecDepth 100000 in
theorem dX12_parameters_276 : decode cX12_parameters 276 = .ok (.invokevirtual 570, 3) := by decide +kernel
set_option maxRecDepth 100000 in
theorem dX12_parameters_279 : decode cX12_parameters 279 = .ok (.aload_n 0, 1) := by decide +kernel
set_option maxRecDepth 100000 in
theorem dX12_parameters_280 : decode cX12_parameters 280 = .ok (.getfield 73, 3) := by decide +kernel
set_option maxRecDepth 100000 in
theorem dX12_parameters_283 : decode cX12_parameters 283 = .ok (.aload_n 0, 1) := by decide +kernel
set_option maxRecDepth 100000 in
theorem dX12_parameters_284 : decode cX12_parameters 284 = .ok (.getfield 73, 3) := by decide +kernel
set_option maxRecDepth 100000 in
theorem dX12_parameters_287 : decode cX12_parameters 287 = .ok (.iload 4, 2) := by decide +kernel
set_option maxRecDepth 100000 in
theorem dX12_parameters_289 : decode cX12_parameters 289 = .ok (.iaload, 1) := by decide +kernel
set_option maxRecDepth 100000 in
theorem dX12_parameters_290 : decode cX12_parameters 290 = .ok (.iaload, 1) := by decide +kernel
set_option maxRecDepth 100000 in
theorem dX12_parameters_291 : decode cX12_parameters 291 = .ok (.istore 7, 2) := by decide +kernel
set_option maxRecDepth 100000 in
theorem dX12_parameters_293 : decode cX12_parameters 293 = .ok (.iload 7, 2) := by decide +kernel
set_option maxRecDepth 100000 in
theorem dX12_parameters_295 : decode cX12_parameters 295 = .ok (.iconst (-1), 1) := by decide +kernel
set_option maxRecDepth 100000 in
theorem dX12_parameters_296 : decode cX12_parameters 296 = .ok (.if_icmp .eq 86, 3) := by decide +kernel
set_option maxRecDepth 100000 in
theorem dX12_parameters_299 : decode cX12_parameters 299 = .ok (.aload_n 0, 1) := by decide +kernel
set_option maxRecDepth 100000 in
theorem dX12_parameters_300 : decode cX12_parameters 300 = .ok (.iconst 3, 1) := by decide +kernel
set_option maxRecDepth 100000 in
theorem dX12_parameters_301 : decode cX12_parameters 301 = .ok (.aload_n 0, 1) := by decide +kernel
set_option maxRecDepth 100000 in
theorem dX12_parameters_302 : decode cX12_parameters 302 = .ok (.getfield 70, 3) := by decide +kernel
set_option maxRecDepth 100000 in
theorem dX12_parameters_305 : decode cX12_parameters 305 = .ok (.iload 7, 2) := by decide +kernel
set_option maxRecDepth 100000 in
theorem dX12_parameters_307 : decode cX12_parameters 307 = .ok (.iaload, 1) := by decide +kernel
set_option maxRecDepth 100000 in
theorem dX12_parameters_308 : decode cX12_parameters 308 = .ok (.aload_n 2, 1) := by decide +kernel
set_option maxRecDepth 100000 in
theorem dX12_parameters_309 : decode cX12_parameters 309 = .ok (.iload_n 3, 1) := by decide +kernel
set_option maxRecDepth 100000 in
theorem dX12_parameters_310 : decode cX12_parameters 310 = .ok (.invokevirtual 954, 3) := by decide +kernel
set_option maxRecDepth 100000 in
theorem dX12_parameters_313 : decode cX12_parameters 313 = .ok (.astore 8, 2) := by decide +kernel
set_option maxRecDepth 100000 in
theorem dX12_parameters_315 : decode cX12_parameters 315 = .ok (.aload 8, 2) := by decide +kernel
set_option maxRecDepth 100000 in
theorem dX12_parameters_317 : decode cX12_parameters 317 = .ok (.aload 6, 2) := by decide +kernel
set_option maxRecDepth 100000 in
theorem dX12_parameters_319 : decode cX12_parameters 319 = .ok (.putfield 612, 3) := by decide +kernel
set_option maxRecDepth 100000 in
theorem dX12_parameters_322 : decode cX12_parameters 322 = .ok (.aload 8, 2) := by decide +kernel
set_option maxRecDepth 100000 in
theorem dX12_parameters_324 : decode cX12_parameters 324 = .ok (.aload_n 0, 1) := by decide +kernel
set_option maxRecDepth 100000 in
theorem dX12_parameters_325 : decode cX12_parameters 325 = .ok (.getfield 82, 3) := by decide +kernel
set_option maxRecDepth 100000 in
theorem dX12_parameters_328 : decode cX12_parameters 328 = .ok (.iload 4, 2) := by decide +kernel
set_option maxRecDepth 100000 in
theorem dX12_parameters_330 : decode cX12_parameters 330 = .ok (.iaload, 1) := by decide +kernel
set_option maxRecDepth 100000 in
theorem dX12_parameters_331 : decode cX12_parameters 331 = .ok (.iconst 1, 1) := by decide +kernel
set_option maxRecDepth 100000 in
theorem dX12_parameters_332 : decode cX12_parameters 332 = .ok (.if_icmp .ne 7, 3) := by decide +kernel
set_option maxRecDepth 100000 in
theorem dX12_parameters_335 : decode cX12_parameters 335 = .ok (.iconst 1, 1) := by decide +kernel
set_option maxRecDepth 100000 in
theorem dX12_parameters_336 : decode cX12_parameters 336 = .ok (.goto 4, 3) := by decide +kernel
set_option maxRecDepth 100000 in
theorem dX12_parameters_339 : decode cX12_parameters 339 = .ok (.iconst 0, 1) := by decide +kernel
set_option maxRecDepth 100000 in
theorem dX12_parameters_340 : decode cX12_parameters 340 = .ok (.putfield 961, 3) := by decide +kernel
set_option maxRecDepth 100000 in
theorem dX12_parameters_343 : decode cX12_parameters 343 = .ok (.aload_n 2, 1) := by decide +kernel
set_option maxRecDepth 100000 in
theorem dX12_parameters_344 : decode cX12_parameters 344 = .ok (.dup, 1) := by decide +kernel
set_option maxRecDepth 100000 in
theorem dX12_parameters_345 : decode cX12_parameters 345 = .ok (.getfield 936, 3) := by decide +kernel
set_option maxRecDepth 100000 in
theorem dX12_parameters_348 : decode cX12_parameters 348 = .ok (.aload 8, 2) := by decide +kernel
set_option maxRecDepth 100000 in
theorem dX12_parameters_350 : decode cX12_parameters 350 = .ok (.getfield 961, 3) := by decide +kernel
set_option maxRecDepth 100000 in
theorem dX12_parameters_353 : decode cX12_parameters 353 = .ok (.ifCond .eq 7, 3) := by decide +kernel
set_option maxRecDepth 100000 in
theorem dX12_parameters_356 : decode cX12_parameters 356 = .ok (.iconst 1, 1) := by decide +kernel
set_option maxRecDepth 100000 in
theorem dX12_parameters_357 : decode cX12_parameters 357 = .ok (.goto 9, 3) := by decide +kernel
set_option maxRecDepth 100000 in
theorem dX12_parameters_360 : decode cX12_parameters 360 = .ok (.aload 6, 2) := by decide +kernel
set_option maxRecDepth 100000 in
theorem dX12_parameters_362 : decode cX12_parameters 362 = .ok (.getfield 603, 3) := by decide +kernel
set_option maxRecDepth 100000 in
theorem dX12_parameters_365 : decode cX12_parameters 365 = .ok (.l2i, 1) := by decide +kernel
set_option maxRecDepth 100000 in
theorem dX12_parameters_366 : decode cX12_parameters 366 = .ok (.iadd, 1) := by decide +kernel
set_option maxRecDepth 100000 in
theorem dX12_parameters_367 : decode cX12_parameters 367 = .ok (.putfield 936, 3) := by decide +kernel
set_option maxRecDepth 100000 in
theorem dX12_parameters_370 : decode cX12_parameters 370 = .ok (.aload_n 0, 1) := by decide +kernel
set_option maxRecDepth 100000 in
theorem dX12_parameters_371 : decode cX12_parameters 371 = .ok (.getfield 79, 3) := by decide +kernel
set_option maxRecDepth 100000 in
theorem dX12_parameters_374 : decode cX12_parameters 374 = .ok (.iload 7, 2) := by decide +kernel
set_option maxRecDepth 100000 in
theorem dX12_parameters_376 : decode cX12_parameters 376 = .ok (.iaload, 1) := by decide +kernel
set_option maxRecDepth 100000 in
theorem dX12_parameters_377 : decode cX12_parameters 377 = .ok (.istore 7, 2) := by decide +kernel
set_option maxRecDepth 100000 in
theorem dX12_parameters_379 : decode cX12_parameters 379 = .ok (.goto (-86), 3) := by decide +kernel
set_option maxRecDepth 100000 in
theorem dX12_parameters_382 : decode cX12_parameters 382 = .ok (.aload_n 0, 1) := by decide +kernel
set_option maxRecDepth 100000 in
theorem dX12_parameters_383 : decode cX12_parameters 383 = .ok (.getfield 79, 3) := by decide +kernel
set_option maxRecDepth 100000 in
theorem dX12_parameters_386 : decode cX12_parameters 386 = .ok (.iload 4, 2) := by decide +kernel
set_option maxRecDepth 100000 in
theorem dX12_parameters_388 : decode cX12_parameters 388 = .ok (.iaload, 1) := by decide +kernel
set_option maxRecDepth 100000 in
theorem dX12_parameters_389 : decode cX12_parameters 389 = .ok (.istore 4, 2) := by decide +kernel
set_option maxRecDepth 100000 in
theorem dX12_parameters_391 : decode cX12_parameters 391 = .ok (.goto (-383), 3) := by decide +kernel
set_option maxRecDepth 100000 in
theorem dX12_parameters_394 : decode cX12_parameters 394 = .ok (.return_, 1) := by decide +kernel
def lX12_parameters_8 (G : xG) (fr lo : Nat) (x0 : Nat) (x2 : Nat) (x3 : Int32) (x4 : Int32) (h : xH) (Q : Outcome → xH → Prop) : Prop := xP G YX12_parameters fr lo 8 [(0, rv x0), (2, rv x2), (3, .int x3), (4, .int x4)] [] h Q
def lX12_parameters_171 (G : xG) (fr lo : Nat) (x0 : Nat) (x2 : Nat) (x3 : Int32) (x4 : Int32) (x5 : Nat) (x7 : Nat) (x8 : Int32) (h : xH) (Q : Outcome → xH → Prop) : Prop := xP G YX12_parameters fr lo 171 [(0, rv x0), (2, rv x2), (3, .int x3), (4, .int x4), (5, rv x5), (7, rv x7), (8, .int x8)] [] h Q
def lX12_parameters_293 (G : xG) (fr lo : Nat) (x0 : Nat) (x2 : Nat) (x3 : Int32) (x4 : Int32) (x6 : Nat) (x7 : Int32) (h : xH) (Q : Outcome → xH → Prop) : Prop := xP G YX12_parameters fr lo 293 [(0, rv x0), (2, rv x2), (3, .int x3), (4, .int x4), (6, rv x6), (7, .int x7)] [] h Q
set_option maxRecDepth 100000 in
def bX12_parameters_382 (G : xG) (fr lo : Nat) (x0 : Nat) (x2 : Nat) (x3 : Int32) (x4 : Int32) (h : xH) (Q : Outcome → xH → Prop) : Prop := tg h x0 = 13 ∧ tg h (fR h x0 3105) = 100 ∧ vp_in x4 (ln h (fR h x0 3105)) ∧ lX12_parameters_8 G fr lo x0 x2 x3 (aI h (fR h x0 3105) (Int32.toNatClampNeg x4)) h Q
set_option maxRecDepth 100000 in
theorem uX12_parameters_382 {G : xG} {fr lo : Nat} {x0 : Nat} {x2 : Nat} {x3 : Int32} {x4 : Int32} {h : xH} {Q : Outcome → xH → Prop} (hq : bX12_parameters_382 G fr lo x0 x2 x3 x4 h Q) : xP G YX12_parameters fr lo 382 [(0, rv x0), (2, rv x2), (3, .int x3), (4, .int x4)] [] h Q := by
  unfold bX12_parameters_382 at hq
  refine x_aload_n 0 dX12_parameters_382 rfl ?_
  obtain ⟨g1, hq⟩ := hq
  refine x_get (v := rv (fR h x0 3105)) fdX12_79 dX12_parameters_383 g1 rfl ?_
  refine x_iload 3 dX12_parameters_386 rfl ?_
  obtain ⟨g2, hq⟩ := hq
  obtain ⟨i3, hq⟩ := hq
  refine x_iald 0 (Or.inl rfl) g2 i3 dX12_parameters_388 ?_
  refine x_istore (lv' := [(4, .int (aI h (fR h x0 3105) (Int32.toNatClampNeg x4))), (0, rv x0), (2, rv x2), (3, .int x3)]) dX12_parameters_389 (by decide) rfl ?_
  refine x_goto (tgt := 8) dX12_parameters_391 (by decide) ?_
  refine xP.pick (lv' := [(0, rv x0), (2, rv x2), (3, .int x3), (4, .int (aI h (fR h x0 3105) (Int32.toNatClampNeg x4)))]) [1, 2, 3, 0] rfl ?_
  exact hq
set_option maxRecDepth 100000 in
def bX12_parameters_366 (G : xG) (fr lo : Nat) (x0 : Nat) (x2 : Nat) (x3 : Int32) (x4 : Int32) (x6 : Nat) (x7 : Int32) (s0 : Int32) (s1 : Int32) (s2 : Nat) (h : xH) (Q : Outcome → xH → Prop) : Prop := tg h s2 = 24 ∧ (∀ h2 : xH, h2 = sI h s2 5914 (s1 + s0) → tg h2 x0 = 13 ∧ tg h2 (fR h2 x0 3105) = 100 ∧ vp_in x7 (ln h2 (fR h2 x0 3105)) ∧ lX12_parameters_293 G fr lo x0 x2 x3 x4 x6 (aI h2 (fR h2 x0 3105) (Int32.toNatClampNeg x7)) h2 Q)
set_option maxRecDepth 100000 in
theorem uX12_parameters_366 {G : xG} {fr lo : Nat} {x0 : Nat} {x2 : Nat} {x3 : Int32} {x4 : Int32} {x6 : Nat} {x7 : Int32} {s0 : Int32} {s1 : Int32} {s2 : Nat} {h : xH} {Q : Outcome → xH → Prop} (hq : bX12_parameters_366 G fr lo x0 x2 x3 x4 x6 x7 s0 s1 s2 h Q) : xP G YX12_parameters fr lo 366 [(0, rv x0), (2, rv x2), (3, .int x3), (4, .int x4), (6, rv x6), (7, .int x7)] [.int s0, .int s1, rv s2] h Q := by
  unfold bX12_parameters_366 at hq
  refine x_iadd dX12_parameters_366 ?_
  obtain ⟨g1, hq⟩ := hq
  obtain ⟨h2, e3⟩ : ∃ y, y = sI h s2 5914 (s1 + s0) := ⟨_, rfl⟩
  replace hq := hq h2 e3
  refine x_putI fdX12_936 xty_I1 dX12_parameters_367 g1 (Or.inl (by rw [g1]; rfl)) xnI rfl e3 ?_
  refine x_aload_n 0 dX12_parameters_370 rfl ?_
  obtain ⟨g4, hq⟩ := hq
  refine x_get (v := rv (fR h2 x0 3105)) fdX12_79 dX12_parameters_371 g4 rfl ?_
  refine x_iload 5 dX12_parameters_374 rfl ?_
  obtain ⟨g5, hq⟩ := hq
  obtain ⟨i6, hq⟩ := hq
  refine x_iald 0 (Or.inl rfl) g5 i6 dX12_parameters_376 ?_
  refine x_istore (lv' := [(7, .int (aI h2 (fR h2 x0 3105) (Int32.toNatClampNeg x7))), (0, rv x0), (2, rv x2), (3, .int x3), (4, .int x4), (6, rv x6)]) dX12_parameters_377 (by decide) (by first | rfl | (simp [rv_cat, Value.category]; done) | (simp [rv_cat, Value.category]; decide)) ?_
  refine x_goto (tgt := 293) dX12_parameters_379 (by decide) ?_
  refine xP.pick (lv' := [(0, rv x0), (2, rv x2), (3, .int x3), (4, .int x4), (6, rv x6), (7, .int (aI h2 (fR h2 x0 3105) (Int32.toNatClampNeg x7)))]) [1, 2, 3, 4, 5, 0] rfl ?_
  exact hq
set_option maxRecDepth 100000 in
def bX12_parameters_340 (G : xG) (fr lo : Nat) (x0 : Nat) (x2 : Nat) (x3 : Int32) (x4 : Int32) (x6 : Nat) (x7 : Int32) (x8 : Nat) (s0 : Int32) (s1 : Nat) (h : xH) (Q : Outcome → xH → Prop) : Prop := tg h s1 = 24 ∧ xbz s0 ∧ (∀ h3 : xH, h3 = sI h s1 5895 s0 → tg h3 x2 = 24 ∧ tg h3 x8 = 24 ∧ (((fI h3 x8 5895) = 0 → tg h3 x6 = 14 ∧ bX12_parameters_366 G fr lo x0 x2 x3 x4 x6 x7 (Int64.toInt32 (fJ h3 x6 3334)) (fI h3 x2 5914) x2 h3 Q) ∧ (¬ (fI h3 x8 5895) = 0 → bX12_parameters_366 G fr lo x0 x2 x3 x4 x6 x7 1 (fI h3 x2 5914) x2 h3 Q)))
set_option maxRecDepth 100000 in
theorem uX12_parameters_340 {G : xG} {fr lo : Nat} {x0 : Nat} {x2 : Nat} {x3 : Int32} {x4 : Int32} {x6 : Nat} {x7 : Int32} {x8 : Nat} {s0 : Int32} {s1 : Nat} {h : xH} {Q : Outcome → xH → Prop} (hq : bX12_parameters_340 G fr lo x0 x2 x3 x4 x6 x7 x8 s0 s1 h Q) : xP G YX12_parameters fr lo 340 [(0, rv x0), (2, rv x2), (3, .int x3), (4, .int x4), (6, rv x6), (7, .int x7), (8, rv x8)] [.int s0, rv s1] h Q := by
  unfold bX12_parameters_340 at hq
  obtain ⟨g1, hq⟩ := hq
  obtain ⟨g2, hq⟩ := hq
  obtain ⟨h3, e4⟩ : ∃ y, y = sI h s1 5895 s0 := ⟨_, rfl⟩
  replace hq := hq h3 e4
  refine x_putI fdX12_961 xty_Z1 dX12_parameters_340 g1 (Or.inl (by rw [g1]; rfl)) (xnB g2) rfl e4 ?_
  refine x_aload_n 1 dX12_parameters_343 rfl ?_
  refine x_dup dX12_parameters_344 (rv_cat _) ?_
  obtain ⟨g5, hq⟩ := hq
  refine x_get (v := .int (fI h3 x2 5914)) fdX12_936 dX12_parameters_345 g5 rfl ?_
  refine x_aload 6 dX12_parameters_348 rfl ?_
  obtain ⟨g6, hq⟩ := hq
  refine x_get (v := .int (fI h3 x8 5895)) fdX12_961 dX12_parameters_350 g6 rfl ?_
  refine x_if_eq (tgt := 360) dX12_parameters_353 (by decide) (fun c7 => ?_) (fun c7 => ?_)
  · replace hq := hq.1 c7
    refine x_aload 4 dX12_parameters_360 rfl ?_
    obtain ⟨g8, hq⟩ := hq
    refine x_get (v := .long (fJ h3 x6 3334)) fdX12_603 dX12_parameters_362 g8 rfl ?_
    refine x_l2i dX12_parameters_365 ?_
    refine xP.pick (lv' := [(0, rv x0), (2, rv x2), (3, .int x3), (4, .int x4), (6, rv x6), (7, .int x7)]) [0, 1, 2, 3, 4, 5] rfl ?_
    exact uX12_parameters_366 hq
  · replace hq := hq.2 c7
    refine x_iconst (v := 1) dX12_parameters_356 (by decide) ?_
    refine x_goto (tgt := 366) dX12_parameters_357 (by decide) ?_
    refine xP.pick (lv' := [(0, rv x0), (2, rv x2), (3, .int x3), (4, .int x4), (6, rv x6), (7, .int x7)]) [0, 1, 2, 3, 4, 5] rfl ?_
    exact uX12_parameters_366 hq
set_option maxRecDepth 100000 in
def bX12_parameters_293 (G : xG) (fr lo : Nat) (x0 : Nat) (x2 : Nat) (x3 : Int32) (x4 : Int32) (x6 : Nat) (x7 : Int32) (h : xH) (Q : Outcome → xH → Prop) : Prop := ((x7 = (-1) → bX12_parameters_382 G fr lo x0 x2 x3 x4 h Q) ∧ (¬ x7 = (-1) → tg h x0 = 13 ∧ tg h (fR h x0 3102) = 100 ∧ vp_in x7 (ln h (fR h x0 3102)) ∧ 1 ≤ fr ∧ 17 ≤ lo ∧ xRr G YX12_parameter (fr - 1) (lo - 17) [rv x0, .int 3, .int (aI h (fR h x0 3102) (Int32.toNatClampNeg x7)), rv x2, .int x3] h (fun x8 h7 => xext h h7 → tg h7 x8 = 24 ∧ (∀ h11 : xH, h11 = sR h7 x8 5890 x6 → tg h11 (fR h11 x0 3106) = 100 ∧ vp_in x4 (ln h11 (fR h11 x0 3106)) ∧ ((¬ (aI h11 (fR h11 x0 3106) (Int32.toNatClampNeg x4)) = 1 → bX12_parameters_340 G fr lo x0 x2 x3 x4 x6 x7 x8 0 x8 h11 Q) ∧ ((aI h11 (fR h11 x0 3106) (Int32.toNatClampNeg x4)) = 1 → bX12_parameters_340 G fr lo x0 x2 x3 x4 x6 x7 x8 1 x8 h11 Q)))) (fun r h2 => Q (.threw r) h2)))
set_option maxRecDepth 100000 in
theorem uX12_parameters_293 {G : xG} {fr lo : Nat} {x0 : Nat} {x2 : Nat} {x3 : Int32} {x4 : Int32} {x6 : Nat} {x7 : Int32} {h : xH} {Q : Outcome → xH → Prop} (hq : bX12_parameters_293 G fr lo x0 x2 x3 x4 x6 x7 h Q) : xP G YX12_parameters fr lo 293 [(0, rv x0), (2, rv x2), (3, .int x3), (4, .int x4), (6, rv x6), (7, .int x7)] [] h Q := by
  unfold bX12_parameters_293 at hq
  refine x_iload 5 dX12_parameters_293 rfl ?_
  refine x_iconst (v := (-1)) dX12_parameters_295 (by decide) ?_
  refine x_icmp_eq (tgt := 382) dX12_parameters_296 (by decide) (fun c1 => ?_) (fun c1 => ?_)
  · replace hq := hq.1 c1
    refine xP.pick (lv' := [(0, rv x0), (2, rv x2), (3, .int x3), (4, .int x4)]) [0, 1, 2, 3] rfl ?_
    exact uX12_parameters_382 hq
  · replace hq := hq.2 c1
    refine x_aload_n 0 dX12_parameters_299 rfl ?_
    refine x_iconst (v := 3) dX12_parameters_300 (by decide) ?_
    refine x_aload_n 0 dX12_parameters_301 rfl ?_
    obtain ⟨g2, hq⟩ := hq
    refine x_get (v := rv (fR h x0 3102)) fdX12_70 dX12_parameters_302 g2 rfl ?_
    refine x_iload 5 dX12_parameters_305 rfl ?_
    obtain ⟨g3, hq⟩ := hq
    obtain ⟨i4, hq⟩ := hq
    refine x_iald 0 (Or.inl rfl) g3 i4 dX12_parameters_307 ?_
    refine x_aload_n 1 dX12_parameters_308 rfl ?_
    refine x_iload_n 2 dX12_parameters_309 rfl ?_
    obtain ⟨g5, g6, hq⟩ := hq
    refine x_callV (Yc := YX12_parameter) (as := [.int 3, .int (aI h (fR h x0 3102) (Int32.toNatClampNeg x7)), rv x2, .int x3]) (st := []) q4296 mvX12_parameter g2 rfl dX12_parameters_310 (xle (xal1 (rv_cat _) (xal1 rfl (xal1 rfl (xal1 (rv_cat _) (xal1 rfl xal0))))) (by decide)) (xfr g5) (xlo xsw0 (by decide) g6) (xKr hq (fun x8 h7 hq e9 => ?_) (fun _ _ q _ => q))
    replace hq := hq e9
    refine x_astore (lv' := [(8, rv x8), (0, rv x0), (2, rv x2), (3, .int x3), (4, .int x4), (6, rv x6), (7, .int x7)]) dX12_parameters_313 (by decide) rfl ?_
    refine x_aload 0 dX12_parameters_315 rfl ?_
    refine x_aload 5 dX12_parameters_317 rfl ?_
    obtain ⟨g10, hq⟩ := hq
    obtain ⟨h11, e12⟩ : ∃ y, y = sR h7 x8 5890 x6 := ⟨_, rfl⟩
    replace hq := hq h11 e12
    refine x_putR fdX12_612 xty_O dX12_parameters_319 g10 (Or.inl (by rw [g10]; rfl)) rfl e12 ?_
    refine x_aload 0 dX12_parameters_322 rfl ?_
    refine x_aload_n 1 dX12_parameters_324 rfl ?_
    have t13 : tg h7 x0 = 13 := e9.tg g2 (by decide)
    have t14 : tg h11 x0 = 13 := by rw [e12]; exact t13
    refine x_get (v := rv (fR h11 x0 3106)) fdX12_82 dX12_parameters_325 t14 rfl ?_
    refine x_iload 4 dX12_parameters_328 rfl ?_
    obtain ⟨g15, hq⟩ := hq
    obtain ⟨i16, hq⟩ := hq
    refine x_iald 0 (Or.inl rfl) g15 i16 dX12_parameters_330 ?_
    refine x_iconst (v := 1) dX12_parameters_331 (by decide) ?_
    refine x_icmp_ne (tgt := 339) dX12_parameters_332 (by decide) (fun c17 => ?_) (fun c17 => ?_)
    · replace hq := hq.1 c17
      refine x_iconst (v := 0) dX12_parameters_339 (by decide) ?_
      refine xP.pick (lv' := [(0, rv x0), (2, rv x2), (3, .int x3), (4, .int x4), (6, rv x6), (7, .int x7), (8, rv x8)]) [1, 2, 3, 4, 5, 6, 0] rfl ?_
      exact uX12_parameters_340 hq
    · replace hq := hq.2 c17
      refine x_iconst (v := 1) dX12_parameters_335 (by decide) ?_
      refine x_goto (tgt := 340) dX12_parameters_336 (by decide) ?_
      refine xP.pick (lv' := [(0, rv x0), (2, rv x2), (3, .int x3), (4, .int x4), (6, rv x6), (7, .int x7), (8, rv x8)]) [1, 2, 3, 4, 5, 6, 0] rfl ?_
      exact uX12_parameters_340 hq
set_option maxRecDepth 100000 in
def bX12_parameters_279 (G : xG) (fr lo : Nat) (x0 : Nat) (x2 : Nat) (x3 : Int32) (x4 : Int32) (x6 : Nat) (h : xH) (Q : Outcome → xH → Prop) : Prop := tg h x0 = 13 ∧ tg h (fR h x0 3103) = 100 ∧ vp_in x4 (ln h (fR h x0 3103)) ∧ vp_in (aI h (fR h x0 3103) (Int32.toNatClampNeg x4)) (ln h (fR h x0 3103)) ∧ lX12_parameters_293 G fr lo x0 x2 x3 x4 x6 (aI h (fR h x0 3103) (Int32.toNatClampNeg (aI h (fR h x0 3103) (Int32.toNatClampNeg x4)))) h Q
set_option maxRecDepth 100000 in
theorem uX12_parameters_279 {G : xG} {fr lo : Nat} {x0 : Nat} {x2 : Nat} {x3 : Int32} {x4 : Int32} {x6 : Nat} {h : xH} {Q : Outcome → xH → Prop} (hq : bX12_parameters_279 G fr lo x0 x2 x3 x4 x6 h Q) : xP G YX12_parameters fr lo 279 [(0, rv x0), (2, rv x2), (3, .int x3), (4, .int x4), (6, rv x6)] [] h Q := by
  unfold bX12_parameters_279 at hq
  refine x_aload_n 0 dX12_parameters_279 rfl ?_
  obtain ⟨g1, hq⟩ := hq
  refine x_get (v := rv (fR h x0 3103)) fdX12_73 dX12_parameters_280 g1 rfl ?_
  refine x_aload_n 0 dX12_parameters_283 rfl ?_
  refine x_get (v := rv (fR h x0 3103)) fdX12_73 dX12_parameters_284 g1 rfl ?_
  refine x_iload 3 dX12_parameters_287 rfl ?_
  obtain ⟨g2, hq⟩ := hq
  obtain ⟨i3, hq⟩ := hq
  refine x_iald 0 (Or.inl rfl) g2 i3 dX12_parameters_289 ?_
  obtain ⟨i4, hq⟩ := hq
  refine x_iald 0 (Or.inl rfl) g2 i4 dX12_parameters_290 ?_
  refine x_istore (lv' := [(7, .int (aI h (fR h x0 3103) (Int32.toNatClampNeg (aI h (fR h x0 3103) (Int32.toNatClampNeg x4))))), (0, rv x0), (2, rv x2), (3, .int x3), (4, .int x4), (6, rv x6)]) dX12_parameters_291 (by decide) (by first | rfl | (simp [rv_cat, Value.category]; done) | (simp [rv_cat, Value.category]; decide)) ?_
  refine xP.pick (lv' := [(0, rv x0), (2, rv x2), (3, .int x3), (4, .int x4), (6, rv x6), (7, .int (aI h (fR h x0 3103) (Int32.toNatClampNeg (aI h (fR h x0 3103) (Int32.toNatClampNeg x4)))))]) [1, 2, 3, 4, 5, 0] rfl ?_
  exact hq
set_option maxRecDepth 100000 in
def bX12_parameters_171 (G : xG) (fr lo : Nat) (x0 : Nat) (x2 : Nat) (x3 : Int32) (x4 : Int32) (x5 : Nat) (x7 : Nat) (x8 : Int32) (h : xH) (Q : Outcome → xH → Prop) : Prop := tg h x5 = 24 ∧ tg h (fR h x5 5910) = 29 ∧ 1 ≤ fr ∧ 13 ≤ lo ∧ xRi G YJ2_size (fr - 1) (lo - 13) [rv (fR h x5 5910)] h (fun x6 h5 => xext h h5 → ((x6 ≤ x8 → tg h5 x2 = 24 ∧ (∀ h10 : xH, h10 = sI h5 x2 5914 ((fI h5 x2 5914) + 1) → bX12_parameters_382 G fr lo x0 x2 x3 x4 h10 Q)) ∧ (¬ x6 ≤ x8 → tg h5 x7 = 24 ∧ tg h5 (fR h5 x5 5910) = 29 ∧ 1 ≤ fr ∧ 14 ≤ lo ∧ xRr G YJ2_get (fr - 1) (lo - 14) [rv (fR h5 x5 5910), .int x8] h5 (fun x18 h17 => xext h5 h17 → tg h17 x18 = 24 ∧ tg h17 (fR h5 x7 5910) = 29 ∧ 1 ≤ fr ∧ 13 ≤ lo ∧ xRi G YJ2_add (fr - 1) (lo - 13) [rv (fR h5 x7 5910), rv x18] h17 (fun x25 h24 => xext h17 h24 → lX12_parameters_171 G fr lo x0 x2 x3 x4 x5 x7 (x8 + 1) h24 Q) (fun r h2 => Q (.threw r) h2)) (fun r h2 => Q (.threw r) h2)))) (fun r h2 => Q (.threw r) h2)
set_option maxRecDepth 100000 in
theorem uX12_parameters_171 {G : xG} {fr lo : Nat} {x0 : Nat} {x2 : Nat} {x3 : Int32} {x4 : Int32} {x5 : Nat} {x7 : Nat} {x8 : Int32} {h : xH} {Q : Outcome → xH → Prop} (hq : bX12_parameters_171 G fr lo x0 x2 x3 x4 x5 x7 x8 h Q) : xP G YX12_parameters fr lo 171 [(0, rv x0), (2, rv x2), (3, .int x3), (4, .int x4), (5, rv x5), (7, rv x7), (8, .int x8)] [] h Q := by
  unfold bX12_parameters_171 at hq
  refine x_iload 6 dX12_parameters_171 rfl ?_
  refine x_aload 4 dX12_parameters_173 rfl ?_
  obtain ⟨g1, hq⟩ := hq
  refine x_get (v := rv (fR h x5 5910)) fdX12_949 dX12_parameters_175 g1 rfl ?_
  obtain ⟨g2, hq⟩ := hq
  obtain ⟨g3, g4, hq⟩ := hq
  refine x_callV (Yc := YJ2_size) (as := []) (st := [.int x8]) q4067 mvJ2_size g2 rfl dX12_parameters_178 (xle (xal1 (rv_cat _) xal0) (by decide)) (xfr g3) (xlo (xsw1 rfl xsw0) (by decide) g4) (xKi hq (fun x6 h5 hq e7 => ?_) (fun _ _ q _ => q))
  replace hq := hq e7
  refine x_icmp_ge (tgt := 212) dX12_parameters_181 (by decide) (fun c8 => ?_) (fun c8 => ?_)
  · replace hq := hq.1 c8
    refine x_aload_n 1 dX12_parameters_212 rfl ?_
    refine x_dup dX12_parameters_213 (rv_cat _) ?_
    obtain ⟨g9, hq⟩ := hq
    refine x_get (v := .int (fI h5 x2 5914)) fdX12_936 dX12_parameters_214 g9 rfl ?_
    refine x_iconst (v := 1) dX12_parameters_217 (by decide) ?_
    refine x_iadd dX12_parameters_218 ?_
    obtain ⟨h10, e11⟩ : ∃ y, y = sI h5 x2 5914 ((fI h5 x2 5914) + 1) := ⟨_, rfl⟩
    replace hq := hq h10 e11
    refine x_putI fdX12_936 xty_I1 dX12_parameters_219 g9 (Or.inl (by rw [g9]; rfl)) xnI rfl e11 ?_
    refine x_goto (tgt := 382) dX12_parameters_222 (by decide) ?_
    refine xP.pick (lv' := [(0, rv x0), (2, rv x2), (3, .int x3), (4, .int x4)]) [0, 1, 2, 3] rfl ?_
    exact uX12_parameters_382 hq
  · replace hq := hq.2 c8
    refine x_aload 5 dX12_parameters_184 rfl ?_
    obtain ⟨g12, hq⟩ := hq
    refine x_get (v := rv (fR h5 x7 5910)) fdX12_949 dX12_parameters_186 g12 rfl ?_
    refine x_aload 4 dX12_parameters_189 rfl ?_
    have t13 : tg h5 x5 = 24 := e7.tg g1 (by decide)
    refine x_get (v := rv (fR h5 x5 5910)) fdX12_949 dX12_parameters_191 t13 rfl ?_
    refine x_iload 6 dX12_parameters_194 rfl ?_
    obtain ⟨g14, hq⟩ := hq
    obtain ⟨g15, g16, hq⟩ := hq
    refine x_callV (Yc := YJ2_get) (as := [.int x8]) (st := [rv (fR h5 x7 5910)]) q4109 mvJ2_get g14 rfl dX12_parameters_196 (xle (xal1 (rv_cat _) (xal1 rfl xal0)) (by decide)) (xfr g15) (xlo (xsw1 (rv_cat _) xsw0) (by decide) g16) (xKr hq (fun x18 h17 hq e19 => ?_) (fun _ _ q _ => q))
    replace hq := hq e19
    obtain ⟨g20, hq⟩ := hq
    refine x_cast (ci := 23) (by decide) rfl q3206 g20 dX12_parameters_199 ?_
    obtain ⟨g21, hq⟩ := hq
    obtain ⟨g22, g23, hq⟩ := hq
    refine x_callV (Yc := YJ2_add) (as := [rv x18]) (st := []) q4030 mvJ2_add g21 rfl dX12_parameters_202 (xle (xal1 (rv_cat _) (xal1 (rv_cat _) xal0)) (by decide)) (xfr g22) (xlo xsw0 (by decide) g23) (xKi hq (fun x25 h24 hq e26 => ?_) (fun _ _ q _ => q))
    replace hq := hq e26
    refine x_pop dX12_parameters_205 rfl ?_
    refine x_iinc (lv' := [(8, .int (x8 + 1)), (0, rv x0), (2, rv x2), (3, .int x3), (4, .int x4), (5, rv x5), (7, rv x7)]) 6 dX12_parameters_206 rfl (by decide) (by first | rfl | (simp [rv_cat, Value.category]; done) | (simp [rv_cat, Value.category]; decide)) ?_
    refine x_goto (tgt := 171) dX12_parameters_209 (by decide) ?_
    refine xP.pick (lv' := [(0, rv x0), (2, rv x2), (3, .int x3), (4, .int x4), (5, rv x5), (7, rv x7), (8, .int (x8 + 1))]) [1, 2, 3, 4, 5, 6, 0] rfl ?_
    exact hq
set_option maxRecDepth 100000 in
def bX12_parameters_158 (G : xG) (fr lo : Nat) (x0 : Nat) (x2 : Nat) (x3 : Int32) (x4 : Int32) (x5 : Nat) (x6 : Nat) (x7 : Nat) (s0 : Int32) (s1 : Nat) (h : xH) (Q : Outcome → xH → Prop) : Prop := tg h s1 = 24 ∧ xbz s0 ∧ (∀ h3 : xH, h3 = sI h s1 5905 s0 → tg h3 x7 = 24 ∧ (∀ h6 : xH, h6 = sR h3 x7 5890 x6 → lX12_parameters_171 G fr lo x0 x2 x3 x4 x5 x7 0 h6 Q))
set_option maxRecDepth 100000 in
theorem uX12_parameters_158 {G : xG} {fr lo : Nat} {x0 : Nat} {x2 : Nat} {x3 : Int32} {x4 : Int32} {x5 : Nat} {x6 : Nat} {x7 : Nat} {s0 : Int32} {s1 : Nat} {h : xH} {Q : Outcome → xH → Prop} (hq : bX12_parameters_158 G fr lo x0 x2 x3 x4 x5 x6 x7 s0 s1 h Q) : xP G YX12_parameters fr lo 158 [(0, rv x0), (2, rv x2), (3, .int x3), (4, .int x4), (5, rv x5), (6, rv x6), (7, rv x7)] [.int s0, rv s1] h Q := by
  unfold bX12_parameters_158 at hq
  obtain ⟨g1, hq⟩ := hq
  obtain ⟨g2, hq⟩ := hq
  obtain ⟨h3, e4⟩ : ∃ y, y = sI h s1 5905 s0 := ⟨_, rfl⟩
  replace hq := hq h3 e4
  refine x_putI fdX12_635 xty_Z1 dX12_parameters_158 g1 (Or.inl (by rw [g1]; rfl)) (xnB g2) rfl e4 ?_
  refine x_aload 6 dX12_parameters_161 rfl ?_
  refine x_aload 5 dX12_parameters_163 rfl ?_
  obtain ⟨g5, hq⟩ := hq
  obtain ⟨h6, e7⟩ : ∃ y, y = sR h3 x7 5890 x6 := ⟨_, rfl⟩
  replace hq := hq h6 e7
  refine x_putR fdX12_612 xty_O dX12_parameters_165 g5 (Or.inl (by rw [g5]; rfl)) rfl e7 ?_
  refine x_iconst (v := 0) dX12_parameters_168 (by decide) ?_
  refine x_istore (lv' := [(8, .int 0), (0, rv x0), (2, rv x2), (3, .int x3), (4, .int x4), (5, rv x5), (6, rv x6), (7, rv x7)]) dX12_parameters_169 (by decide) (by first | rfl | (simp [rv_cat, Value.category]; done) | (simp [rv_cat, Value.category]; decide)) ?_
  refine xP.pick (lv' := [(0, rv x0), (2, rv x2), (3, .int x3), (4, .int x4), (5, rv x5), (7, rv x7), (8, .int 0)]) [1, 2, 3, 4, 5, 7, 0] rfl ?_
  exact hq
set_option maxRecDepth 100000 in
def bX12_parameters_111 (G : xG) (fr lo : Nat) (x0 : Nat) (x2 : Nat) (x3 : Int32) (x4 : Int32) (x5 : Nat) (s0 : Nat) (h : xH) (Q : Outcome → xH → Prop) : Prop := tg h x0 = 13 ∧ 1 ≤ fr ∧ 12 ≤ lo ∧ xRr G YX12_pop (fr - 1) (lo - 12) [rv x0] h (fun x5 h4 => xext h h4 → tg h4 (fR h4 x0 3102) = 100 ∧ vp_in x4 (ln h4 (fR h4 x0 3102)) ∧ 1 ≤ fr ∧ 17 ≤ lo ∧ xRr G YX12_parameter (fr - 1) (lo - 17) [rv x0, .int 5, .int (aI h4 (fR h4 x0 3102) (Int32.toNatClampNeg x4)), rv x2, .int x3] h4 (fun x13 h12 => xext h4 h12 → tg h12 x13 = 24 ∧ (∀ h16 : xH, h16 = sI h12 x13 5897 1 → tg h16 (fR h16 x0 3106) = 100 ∧ vp_in x4 (ln h16 (fR h16 x0 3106)) ∧ ((¬ (aI h16 (fR h16 x0 3106) (Int32.toNatClampNeg x4)) = 3 → bX12_parameters_158 G fr lo x0 x2 x3 x4 x5 s0 x13 0 x13 h16 Q) ∧ ((aI h16 (fR h16 x0 3106) (Int32.toNatClampNeg x4)) = 3 → bX12_parameters_158 G fr lo x0 x2 x3 x4 x5 s0 x13 1 x13 h16 Q)))) (fun r h2 => Q (.threw r) h2)) (fun r h2 => Q (.threw r) h2)
set_option maxRecDepth 100000 in
theorem uX12_parameters_111 {G : xG} {fr lo : Nat} {x0 : Nat} {x2 : Nat} {x3 : Int32} {x4 : Int32} {x5 : Nat} {s0 : Nat} {h : xH} {Q : Outcome → xH → Prop} (hq : bX12_parameters_111 G fr lo x0 x2 x3 x4 x5 s0 h Q) : xP G YX12_parameters fr lo 111 [(0, rv x0), (2, rv x2), (3, .int x3), (4, .int x4), (5, rv x5)] [rv s0] h Q := by
  unfold bX12_parameters_111 at hq
  refine x_astore (lv' := [(6, rv s0), (0, rv x0), (2, rv x2), (3, .int x3), (4, .int x4), (5, rv x5)]) dX12_parameters_111 (by decide) (by first | rfl | (simp [rv_cat, Value.category]; done) | (simp [rv_cat, Value.category]; decide)) ?_
  refine x_aload_n 1 dX12_parameters_113 rfl ?_
  obtain ⟨g1, hq⟩ := hq
  obtain ⟨g2, g3, hq⟩ := hq
  refine x_callV (Yc := YX12_pop) (as := []) (st := []) q4283 mvX12_pop g1 rfl dX12_parameters_114 (xle (xal1 (rv_cat _) xal0) (by decide)) (xfr g2) (xlo xsw0 (by decide) g3) (xKr hq (fun x5 h4 hq e6 => ?_) (fun _ _ q _ => q))
  replace hq := hq e6
  refine x_pop dX12_parameters_117 (rv_cat _) ?_
  refine x_aload_n 1 dX12_parameters_118 rfl ?_
  refine x_iconst (v := 5) dX12_parameters_119 (by decide) ?_
  refine x_aload_n 1 dX12_parameters_120 rfl ?_
  have t7 : tg h4 x0 = 13 := e6.tg g1 (by decide)
  refine x_get (v := rv (fR h4 x0 3102)) fdX12_70 dX12_parameters_121 t7 rfl ?_
  refine x_iload 4 dX12_parameters_124 rfl ?_
  obtain ⟨g8, hq⟩ := hq
  obtain ⟨i9, hq⟩ := hq
  refine x_iald 0 (Or.inl rfl) g8 i9 dX12_parameters_126 ?_
  refine x_aload_n 2 dX12_parameters_127 rfl ?_
  refine x_iload_n 3 dX12_parameters_128 rfl ?_
  obtain ⟨g10, g11, hq⟩ := hq
  refine x_callV (Yc := YX12_parameter) (as := [.int 5, .int (aI h4 (fR h4 x0 3102) (Int32.toNatClampNeg x4)), rv x2, .int x3]) (st := []) q4296 mvX12_parameter t7 rfl dX12_parameters_129 (xle (xal1 (rv_cat _) (xal1 rfl (xal1 rfl (xal1 (rv_cat _) (xal1 rfl xal0))))) (by decide)) (xfr g10) (xlo xsw0 (by decide) g11) (xKr hq (fun x13 h12 hq e14 => ?_) (fun _ _ q _ => q))
  replace hq := hq e14
  refine x_astore (lv' := [(7, rv x13), (6, rv s0), (0, rv x0), (2, rv x2), (3, .int x3), (4, .int x4), (5, rv x5)]) dX12_parameters_132 (by decide) (by first | rfl | (simp [rv_cat, Value.category]; done) | (simp [rv_cat, Value.category]; decide)) ?_
  refine x_aload 0 dX12_parameters_134 rfl ?_
  refine x_iconst (v := 1) dX12_parameters_136 (by decide) ?_
  obtain ⟨g15, hq⟩ := hq
  obtain ⟨h16, e17⟩ : ∃ y, y = sI h12 x13 5897 1 := ⟨_, rfl⟩
  replace hq := hq h16 e17
  refine x_putI fdX12_958 xty_Z1 dX12_parameters_137 g15 (Or.inl (by rw [g15]; rfl)) (xnB (Or.inr rfl)) rfl e17 ?_
  refine x_aload 0 dX12_parameters_140 rfl ?_
  refine x_aload_n 2 dX12_parameters_142 rfl ?_
  have t18 : tg h12 x0 = 13 := e14.tg t7 (by decide)
  have t19 : tg h16 x0 = 13 := by rw [e17]; exact t18
  refine x_get (v := rv (fR h16 x0 3106)) fdX12_82 dX12_parameters_143 t19 rfl ?_
  refine x_iload 5 dX12_parameters_146 rfl ?_
  obtain ⟨g20, hq⟩ := hq
  obtain ⟨i21, hq⟩ := hq
  refine x_iald 0 (Or.inl rfl) g20 i21 dX12_parameters_148 ?_
  refine x_iconst (v := 3) dX12_parameters_149 (by decide) ?_
  refine x_icmp_ne (tgt := 157) dX12_parameters_150 (by decide) (fun c22 => ?_) (fun c22 => ?_)
  · replace hq := hq.1 c22
    refine x_iconst (v := 0) dX12_parameters_157 (by decide) ?_
    refine xP.pick (lv' := [(0, rv x0), (2, rv x2), (3, .int x3), (4, .int x4), (5, rv x5), (6, rv s0), (7, rv x13)]) [2, 3, 4, 5, 6, 1, 0] rfl ?_
    exact uX12_parameters_158 hq
  · replace hq := hq.2 c22
    refine x_iconst (v := 1) dX12_parameters_153 (by decide) ?_
    refine x_goto (tgt := 158) dX12_parameters_154 (by decide) ?_
    refine xP.pick (lv' := [(0, rv x0), (2, rv x2), (3, .int x3), (4, .int x4), (5, rv x5), (6, rv s0), (7, rv x13)]) [2, 3, 4, 5, 6, 1, 0] rfl ?_
    exact uX12_parameters_158 hq
set_option maxRecDepth 100000 in
def bX12_parameters_8 (G : xG) (fr lo : Nat) (x0 : Nat) (x2 : Nat) (x3 : Int32) (x4 : Int32) (h : xH) (Q : Outcome → xH → Prop) : Prop := ((x4 = (-1) → Q (.returned none) h) ∧ (¬ x4 = (-1) → tg h x0 = 13 ∧ tg h (fR h x0 3106) = 100 ∧ vp_in x4 (ln h (fR h x0 3106)) ∧ (((aI h (fR h x0 3106) (Int32.toNatClampNeg x4)) ≤ 1 → 1 ≤ fr ∧ 17 ≤ lo ∧ xRi G YX12_child (fr - 1) (lo - 17) [rv x0, .int x4, .int 1] h (fun x9 h8 => xext h h8 → tg h8 (fR h x0 3102) = 100 ∧ vp_in x9 (ln h8 (fR h x0 3102)) ∧ 1 ≤ fr ∧ 15 ≤ lo ∧ xRr G YX12_findOf (fr - 1) (lo - 15) [rv x0, .int (aI h8 (fR h x0 3102) (Int32.toNatClampNeg x9)), .int 2] h8 (fun x17 h16 => xext h8 h16 → tg h16 x17 = 24 ∧ tg h16 (fR h16 x0 3106) = 100 ∧ vp_in x4 (ln h16 (fR h16 x0 3106)) ∧ ((¬ (aI h16 (fR h16 x0 3106) (Int32.toNatClampNeg x4)) = 0 → bX12_parameters_279 G fr lo x0 x2 x3 x4 (fR h16 x17 5890) h16 Q) ∧ ((aI h16 (fR h16 x0 3106) (Int32.toNatClampNeg x4)) = 0 → tg h16 (fR h16 x17 5890) = 14 ∧ ((¬ (fI h16 (fR h16 x17 5890) 3328) = 10 → bX12_parameters_279 G fr lo x0 x2 x3 x4 (fR h16 x17 5890) h16 Q) ∧ ((fI h16 (fR h16 x17 5890) 3328) = 10 → 1 ≤ fr ∧ 14 ≤ lo ∧ xRv G YX12_refuse (fr - 1) (lo - 14) [rv x0, .int 7, .int (aI h8 (fR h x0 3102) (Int32.toNatClampNeg x9))] h16 (fun h28 => xext h16 h28 → bX12_parameters_279 G fr lo x0 x2 x3 x4 (fR h16 x17 5890) h28 Q) (fun r h2 => Q (.threw r) h2)))))) (fun r h2 => Q (.threw r) h2)) (fun r h2 => Q (.threw r) h2)) ∧ (¬ (aI h (fR h x0 3106) (Int32.toNatClampNeg x4)) ≤ 1 → nx h + 1 ≤ xGN G ∧ us h + 28 ≤ xGU G ∧ (∀ (a33 : Nat) (h34 : xH), a33 = nx h + 1 → h34 = nO h 24 28 → xfresh h a33 → tg h34 (fR h34 x0 3102) = 100 ∧ vp_in x4 (ln h34 (fR h34 x0 3102)) ∧ tg h34 (fR h34 x0 3084) = 100 ∧ vp_in (aI h34 (fR h34 x0 3102) (Int32.toNatClampNeg x4)) (ln h34 (fR h34 x0 3084)) ∧ 1 ≤ fr ∧ 15 ≤ lo ∧ xRv G YX23_init (fr - 1) (lo - 15) [rv a33, .int 5, .int (aI h34 (fR h34 x0 3084) (Int32.toNatClampNeg (aI h34 (fR h34 x0 3102) (Int32.toNatClampNeg x4))))] h34 (fun h46 => xext h34 h46 → nx h46 + 1 ≤ xGN G ∧ us h46 + 3 ≤ xGU G ∧ (∀ (a51 : Nat) (h52 : xH), a51 = nx h46 + 1 → h52 = nO h46 29 3 → xfresh h46 a51 → 1 ≤ fr ∧ 14 ≤ lo ∧ xRv G YJ2_init_2 (fr - 1) (lo - 14) [rv a51] h52 (fun h59 => xext h52 h59 → (∀ h65 : xH, h65 = sR h59 a33 5911 a51 → 1 ≤ fr ∧ 14 ≤ lo ∧ xRv G YX12_push (fr - 1) (lo - 14) [rv x0, rv (fR h65 a33 5911), .int (-1)] h65 (fun h74 => xext h65 h74 → tg h74 (fR h74 x0 3103) = 100 ∧ vp_in x4 (ln h74 (fR h74 x0 3103)) ∧ 1 ≤ fr ∧ 20 ≤ lo ∧ xRv G YX12_parameters (fr - 1) (lo - 20) [rv x0, .int (aI h74 (fR h74 x0 3103) (Int32.toNatClampNeg x4)), rv a33, .int (x3 + 1)] h74 (fun h82 => xext h74 h82 → tg h82 (fR h82 x0 3106) = 100 ∧ vp_in x4 (ln h82 (fR h82 x0 3106)) ∧ ((¬ (aI h82 (fR h82 x0 3106) (Int32.toNatClampNeg x4)) = 3 → bX12_parameters_111 G fr lo x0 x2 x3 x4 a33 0 h82 Q) ∧ ((aI h82 (fR h82 x0 3106) (Int32.toNatClampNeg x4)) = 3 → 1 ≤ fr ∧ 17 ≤ lo ∧ xRi G YX12_child (fr - 1) (lo - 17) [rv x0, .int x4, .int 1] h82 (fun x92 h91 => xext h82 h91 → 1 ≤ fr ∧ 14 ≤ lo ∧ xRr G YX12_resultOf (fr - 1) (lo - 14) [rv x0, .int x92] h91 (fun x98 h97 => xext h91 h97 → bX12_parameters_111 G fr lo x0 x2 x3 x4 a33 x98 h97 Q) (fun r h2 => Q (.threw r) h2)) (fun r h2 => Q (.threw r) h2)))) (fun r h2 => Q (.threw r) h2)) (fun r h2 => Q (.threw r) h2))) (fun r h2 => Q (.threw r) h2))) (fun r h2 => Q (.threw r) h2))))))
set_option maxRecDepth 100000 in
theorem uX12_parameters_8 {G : xG} {fr lo : Nat} {x0 : Nat} {x2 : Nat} {x3 : Int32} {x4 : Int32} {h : xH} {Q : Outcome → xH → Prop} (hq : bX12_parameters_8 G fr lo x0 x2 x3 x4 h Q) : xP G YX12_parameters fr lo 8 [(0, rv x0), (2, rv x2), (3, .int x3), (4, .int x4)] [] h Q := by
  unfold bX12_parameters_8 at hq
  refine x_iload 3 dX12_parameters_8 rfl ?_
  refine x_iconst (v := (-1)) dX12_parameters_10 (by decide) ?_
  refine x_icmp_eq (tgt := 394) dX12_parameters_11 (by decide) (fun c1 => ?_) (fun c1 => ?_)
  · replace hq := hq.1 c1
    exact x_vret rfl dX12_parameters_394 hq
  · replace hq := hq.2 c1
    refine x_aload_n 0 dX12_parameters_14 rfl ?_
    obtain ⟨g2, hq⟩ := hq
    refine x_get (v := rv (fR h x0 3106)) fdX12_82 dX12_parameters_15 g2 rfl ?_
    refine x_iload 3 dX12_parameters_18 rfl ?_
    obtain ⟨g3, hq⟩ := hq
    obtain ⟨i4, hq⟩ := hq
    refine x_iald 0 (Or.inl rfl) g3 i4 dX12_parameters_20 ?_
    refine x_iconst (v := 1) dX12_parameters_21 (by decide) ?_
    refine x_icmp_le (tgt := 225) dX12_parameters_22 (by decide) (fun c5 => ?_) (fun c5 => ?_)
    · replace hq := hq.1 c5
      refine x_aload_n 0 dX12_parameters_225 rfl ?_
      refine x_get (v := rv (fR h x0 3102)) fdX12_70 dX12_parameters_226 g2 rfl ?_
      refine x_aload_n 0 dX12_parameters_229 rfl ?_
      refine x_iload 3 dX12_parameters_230 rfl ?_
      refine x_iconst (v := 1) dX12_parameters_232 (by decide) ?_
      obtain ⟨g6, g7, hq⟩ := hq
      refine x_callV (Yc := YX12_child) (as := [.int x4, .int 1]) (st := [rv (fR h x0 3102)]) q4126 mvX12_child g2 rfl dX12_parameters_233 (xle (xal1 (rv_cat _) (xal1 rfl (xal1 rfl xal0))) (by decide)) (xfr g6) (xlo (xsw1 (rv_cat _) xsw0) (by decide) g7) (xKi hq (fun x9 h8 hq e10 => ?_) (fun _ _ q _ => q))
      replace hq := hq e10
      obtain ⟨g11, hq⟩ := hq
      obtain ⟨i12, hq⟩ := hq
      refine x_iald 0 (Or.inl rfl) g11 i12 dX12_parameters_236 ?_
      refine x_istore (lv' := [(5, .int (aI h8 (fR h x0 3102) (Int32.toNatClampNeg x9))), (0, rv x0), (2, rv x2), (3, .int x3), (4, .int x4)]) dX12_parameters_237 (by decide) rfl ?_
      refine x_aload_n 1 dX12_parameters_239 rfl ?_
      refine x_iload 0 dX12_parameters_240 rfl ?_
      refine x_iconst (v := 2) dX12_parameters_242 (by decide) ?_
      have t13 : tg h8 x0 = 13 := e10.tg g2 (by decide)
      obtain ⟨g14, g15, hq⟩ := hq
      refine x_callV (Yc := YX12_findOf) (as := [.int (aI h8 (fR h x0 3102) (Int32.toNatClampNeg x9)), .int 2]) (st := []) q4157 mvX12_findOf t13 rfl dX12_parameters_243 (xle (xal1 (rv_cat _) (xal1 rfl (xal1 rfl xal0))) (by decide)) (xfr g14) (xlo xsw0 (by decide) g15) (xKr hq (fun x17 h16 hq e18 => ?_) (fun _ _ q _ => q))
      replace hq := hq e18
      obtain ⟨g19, hq⟩ := hq
      refine x_get (v := rv (fR h16 x17 5890)) fdX12_612 dX12_parameters_246 g19 rfl ?_
      refine x_astore (lv' := [(6, rv (fR h16 x17 5890)), (5, .int (aI h8 (fR h x0 3102) (Int32.toNatClampNeg x9))), (0, rv x0), (2, rv x2), (3, .int x3), (4, .int x4)]) dX12_parameters_249 (by decide) rfl ?_
      refine x_aload_n 2 dX12_parameters_251 rfl ?_
      have t20 : tg h16 x0 = 13 := e18.tg t13 (by decide)
      refine x_get (v := rv (fR h16 x0 3106)) fdX12_82 dX12_parameters_252 t20 rfl ?_
      refine x_iload 5 dX12_parameters_255 rfl ?_
      obtain ⟨g21, hq⟩ := hq
      obtain ⟨i22, hq⟩ := hq
      refine x_iald 0 (Or.inl rfl) g21 i22 dX12_parameters_257 ?_
      refine x_if_ne (tgt := 279) dX12_parameters_258 (by decide) (fun c23 => ?_) (fun c23 => ?_)
      · replace hq := hq.1 c23
        refine xP.pick (lv' := [(0, rv x0), (2, rv x2), (3, .int x3), (4, .int x4), (6, rv (fR h16 x17 5890))]) [2, 3, 4, 5, 0] rfl ?_
        exact uX12_parameters_279 hq
      · replace hq := hq.2 c23
        refine x_aload 0 dX12_parameters_261 rfl ?_
        obtain ⟨g24, hq⟩ := hq
        refine x_get (v := .int (fI h16 (fR h16 x17 5890) 3328)) fdX12_845 dX12_parameters_263 g24 rfl ?_
        refine x_bipush (v := 10) dX12_parameters_266 (by decide) ?_
        refine x_icmp_ne (tgt := 279) dX12_parameters_268 (by decide) (fun c25 => ?_) (fun c25 => ?_)
        · replace hq := hq.1 c25
          refine xP.pick (lv' := [(0, rv x0), (2, rv x2), (3, .int x3), (4, .int x4), (6, rv (fR h16 x17 5890))]) [2, 3, 4, 5, 0] rfl ?_
          exact uX12_parameters_279 hq
        · replace hq := hq.2 c25
          refine x_aload_n 2 dX12_parameters_271 rfl ?_
          refine x_bipush (v := 7) dX12_parameters_272 (by decide) ?_
          refine x_iload 1 dX12_parameters_274 rfl ?_
          obtain ⟨g26, g27, hq⟩ := hq
          refine x_callV (Yc := YX12_refuse) (as := [.int 7, .int (aI h8 (fR h x0 3102) (Int32.toNatClampNeg x9))]) (st := []) q4095 mvX12_refuse t20 rfl dX12_parameters_276 (xle (xal1 (rv_cat _) (xal1 rfl (xal1 rfl xal0))) (by decide)) (xfr g26) (xlo xsw0 (by decide) g27) (xKv hq (fun h28 hq e30 => ?_) (fun _ _ q _ => q))
          replace hq := hq e30
          refine xP.pick (lv' := [(0, rv x0), (2, rv x2), (3, .int x3), (4, .int x4), (6, rv (fR h16 x17 5890))]) [2, 3, 4, 5, 0] rfl ?_
          exact uX12_parameters_279 hq
    · replace hq := hq.2 c5
      obtain ⟨g31, g32, hq⟩ := hq
      obtain ⟨a33, e35⟩ : ∃ y, y = nx h + 1 := ⟨_, rfl⟩
      obtain ⟨h34, e36⟩ : ∃ y, y = nO h 24 28 := ⟨_, rfl⟩
      refine x_new' cdX12_100 dX12_parameters_25 g31 g32 e35 e36 (fun f37 => ?_)
      replace hq := hq a33 h34 e35 e36 f37
      have t38 : tg h34 a33 = 24 := by rw [e36, e35]; exact tg_nO
      refine x_dup dX12_parameters_28 (rv_cat _) ?_
      refine x_iconst (v := 5) dX12_parameters_29 (by decide) ?_
      refine x_aload_n 0 dX12_parameters_30 rfl ?_
      have t39 : tg h34 x0 = 13 := by rw [e36]; exact tg_nO_ne e35 f37 g2 (by decide)
      refine x_get (v := rv (fR h34 x0 3084)) fdX12_32 dX12_parameters_31 t39 rfl ?_
      refine x_aload_n 0 dX12_parameters_34 rfl ?_
      refine x_get (v := rv (fR h34 x0 3102)) fdX12_70 dX12_parameters_35 t39 rfl ?_
      refine x_iload 3 dX12_parameters_38 rfl ?_
      obtain ⟨g40, hq⟩ := hq
      obtain ⟨i41, hq⟩ := hq
      refine x_iald 0 (Or.inl rfl) g40 i41 dX12_parameters_40 ?_
      obtain ⟨g42, hq⟩ := hq
      obtain ⟨i43, hq⟩ := hq
      refine x_iald 0 (Or.inl rfl) g42 i43 dX12_parameters_41 ?_
      obtain ⟨g44, g45, hq⟩ := hq
      refine x_callI (Yc := YX23_init) (as := [.int 5, .int (aI h34 (fR h34 x0 3084) (Int32.toNatClampNeg (aI h34 (fR h34 x0 3102) (Int32.toNatClampNeg x4))))]) (st := [rv a33]) q3935 miX23_init (by rw [t38]; decide) rfl dX12_parameters_42 (xle (xal1 (rv_cat _) (xal1 rfl (xal1 rfl xal0))) (by decide)) (xfr g44) (xlo (xsw1 (rv_cat _) xsw0) (by decide) g45) (xKv hq (fun h46 hq e48 => ?_) (fun _ _ q _ => q))
      replace hq := hq e48
      refine x_astore (lv' := [(5, rv a33), (0, rv x0), (2, rv x2), (3, .int x3), (4, .int x4)]) dX12_parameters_45 (by decide) rfl ?_
      refine x_aload 0 dX12_parameters_47 rfl ?_
      obtain ⟨g49, g50, hq⟩ := hq
      obtain ⟨a51, e53⟩ : ∃ y, y = nx h46 + 1 := ⟨_, rfl⟩
      obtain ⟨h52, e54⟩ : ∃ y, y = nO h46 29 3 := ⟨_, rfl⟩
      refine x_new' cdX12_131 dX12_parameters_49 g49 g50 e53 e54 (fun f55 => ?_)
      replace hq := hq a51 h52 e53 e54 f55
      have t56 : tg h52 a51 = 29 := by rw [e54, e53]; exact tg_nO
      refine x_dup dX12_parameters_52 (rv_cat _) ?_
      obtain ⟨g57, g58, hq⟩ := hq
      refine x_callI (Yc := YJ2_init_2) (as := []) (st := [rv a51, rv a33]) q3246 miJ2_init_2 (by rw [t56]; decide) rfl dX12_parameters_53 (xle (xal1 (rv_cat _) xal0) (by decide)) (xfr g57) (xlo (xsw1 (rv_cat _) (xsw1 (rv_cat _) xsw0)) (by decide) g58) (xKv hq (fun h59 hq e61 => ?_) (fun _ _ q _ => q))
      replace hq := hq e61
      have t62 : tg h46 a33 = 24 := e48.tg t38 (by decide)
      have t63 : tg h52 a33 = 24 := by rw [e54]; exact tg_nO_ne e53 f55 t62 (by decide)
      have t64 : tg h59 a33 = 24 := e61.tg t63 (by decide)
      obtain ⟨h65, e66⟩ : ∃ y, y = sR h59 a33 5911 a51 := ⟨_, rfl⟩
      replace hq := hq h65 e66
      refine x_putR fdX12_923 xty_O dX12_parameters_56 t64 (Or.inl (by rw [t64]; rfl)) rfl e66 ?_
      refine x_aload_n 1 dX12_parameters_59 rfl ?_
      refine x_aload 0 dX12_parameters_60 rfl ?_
      have t67 : tg h65 a33 = 24 := by rw [e66]; exact t64
      refine x_get (v := rv (fR h65 a33 5911)) fdX12_923 dX12_parameters_62 t67 rfl ?_
      refine x_iconst (v := (-1)) dX12_parameters_65 (by decide) ?_
      have t68 : tg h46 x0 = 13 := e48.tg t39 (by decide)
      have t69 : tg h52 x0 = 13 := by rw [e54]; exact tg_nO_ne e53 f55 t68 (by decide)
      have t70 : tg h59 x0 = 13 := e61.tg t69 (by decide)
      have t71 : tg h65 x0 = 13 := by rw [e66]; exact t70
      obtain ⟨g72, g73, hq⟩ := hq
      refine x_callV (Yc := YX12_push) (as := [rv (fR h65 a33 5911), .int (-1)]) (st := []) q4063 mvX12_push t71 rfl dX12_parameters_66 (xle (xal1 (rv_cat _) (xal1 (rv_cat _) (xal1 rfl xal0))) (by decide)) (xfr g72) (xlo xsw0 (by decide) g73) (xKv hq (fun h74 hq e76 => ?_) (fun _ _ q _ => q))
      replace hq := hq e76
      refine x_aload_n 1 dX12_parameters_69 rfl ?_
      refine x_aload_n 1 dX12_parameters_70 rfl ?_
      have t77 : tg h74 x0 = 13 := e76.tg t71 (by decide)
      refine x_get (v := rv (fR h74 x0 3103)) fdX12_73 dX12_parameters_71 t77 rfl ?_
      refine x_iload 4 dX12_parameters_74 rfl ?_
      obtain ⟨g78, hq⟩ := hq
      obtain ⟨i79, hq⟩ := hq
      refine x_iald 0 (Or.inl rfl) g78 i79 dX12_parameters_76 ?_
      refine x_aload 0 dX12_parameters_77 rfl ?_
      refine x_iload_n 3 dX12_parameters_79 rfl ?_
      refine x_iconst (v := 1) dX12_parameters_80 (by decide) ?_
      refine x_iadd dX12_parameters_81 ?_
      obtain ⟨g80, g81, hq⟩ := hq
      refine x_callV (Yc := YX12_parameters) (as := [.int (aI h74 (fR h74 x0 3103) (Int32.toNatClampNeg x4)), rv a33, .int (x3 + 1)]) (st := []) q4275 mvX12_parameters t77 rfl dX12_parameters_82 (xle (xal1 (rv_cat _) (xal1 rfl (xal1 (rv_cat _) (xal1 rfl xal0)))) (by decide)) (xfr g80) (xlo xsw0 (by decide) g81) (xKv hq (fun h82 hq e84 => ?_) (fun _ _ q _ => q))
      replace hq := hq e84
      refine x_aload_n 1 dX12_parameters_85 rfl ?_
      have t85 : tg h82 x0 = 13 := e84.tg t77 (by decide)
      refine x_get (v := rv (fR h82 x0 3106)) fdX12_82 dX12_parameters_86 t85 rfl ?_
      refine x_iload 4 dX12_parameters_89 rfl ?_
      obtain ⟨g86, hq⟩ := hq
      obtain ⟨i87, hq⟩ := hq
      refine x_iald 0 (Or.inl rfl) g86 i87 dX12_parameters_91 ?_
      refine x_iconst (v := 3) dX12_parameters_92 (by decide) ?_
      refine x_icmp_ne (tgt := 110) dX12_parameters_93 (by decide) (fun c88 => ?_) (fun c88 => ?_)
      · replace hq := hq.1 c88
        refine x_null dX12_parameters_110 ?_
        refine xP.pick (lv' := [(0, rv x0), (2, rv x2), (3, .int x3), (4, .int x4), (5, rv a33)]) [1, 2, 3, 4, 0] rfl ?_
        exact uX12_parameters_111 hq
      · replace hq := hq.2 c88
        refine x_aload_n 1 dX12_parameters_96 rfl ?_
        refine x_aload_n 1 dX12_parameters_97 rfl ?_
        refine x_iload 4 dX12_parameters_98 rfl ?_
        refine x_iconst (v := 1) dX12_parameters_100 (by decide) ?_
        obtain ⟨g89, g90, hq⟩ := hq
        refine x_callV (Yc := YX12_child) (as := [.int x4, .int 1]) (st := [rv x0]) q4126 mvX12_child t85 rfl dX12_parameters_101 (xle (xal1 (rv_cat _) (xal1 rfl (xal1 rfl xal0))) (by decide)) (xfr g89) (xlo (xsw1 (rv_cat _) xsw0) (by decide) g90) (xKi hq (fun x92 h91 hq e93 => ?_) (fun _ _ q _ => q))
        replace hq := hq e93
        have t94 : tg h91 x0 = 13 := e93.tg t85 (by decide)
        obtain ⟨g95, g96, hq⟩ := hq
        refine x_callV (Yc := YX12_resultOf) (as := [.int x92]) (st := []) q4279 mvX12_resultOf t94 rfl dX12_parameters_104 (xle (xal1 (rv_cat _) (xal1 rfl xal0)) (by decide)) (xfr g95) (xlo xsw0 (by decide) g96) (xKr hq (fun x98 h97 hq e99 => ?_) (fun _ _ q _ => q))
        replace hq := hq e99
        refine x_goto (tgt := 111) dX12_parameters_107 (by decide) ?_
        refine xP.pick (lv' := [(0, rv x0), (2, rv x2), (3, .int x3), (4, .int x4), (5, rv a33)]) [1, 2, 3, 4, 0] rfl ?_
        exact uX12_parameters_111 hq
set_option maxRecDepth 100000 in
def bX12_parameters (G : xG) (fr lo : Nat) (x0 : Nat) (x1 : Int32) (x2 : Nat) (x3 : Int32) (h : xH) (Q : Outcome → xH → Prop) : Prop := tg h x0 = 13 ∧ tg h (fR h x0 3103) = 100 ∧ vp_in x1 (ln h (fR h x0 3103)) ∧ lX12_parameters_8 G fr lo x0 x2 x3 (aI h (fR h x0 3103) (Int32.toNatClampNeg x1)) h Q
set_option maxRecDepth 100000 in
theorem uX12_parameters {G : xG} {fr lo : Nat} {x0 : Nat} {x1 : Int32} {x2 : Nat} {x3 : Int32} {h : xH} {Q : Outcome → xH → Prop} (hq : bX12_parameters G fr lo x0 x1 x2 x3 h Q) : xP G YX12_parameters fr lo 0 [(0, rv x0), (1, .int x1), (2, rv x2), (3, .int x3)] [] h Q := by
  unfold bX12_parameters at hq
  refine x_aload_n 0 dX12_parameters_0 rfl ?_
  obtain ⟨g1, hq⟩ := hq
  refine x_get (v := rv (fR h x0 3103)) fdX12_73 dX12_parameters_1 g1 rfl ?_
  refine x_iload_n 1 dX12_parameters_4 rfl ?_
  obtain ⟨g2, hq⟩ := hq
  obtain ⟨i3, hq⟩ := hq
  refine x_iald 0 (Or.inl rfl) g2 i3 dX12_parameters_5 ?_
  refine x_istore (lv' := [(4, .int (aI h (fR h x0 3103) (Int32.toNatClampNeg x1))), (0, rv x0), (1, .int x1), (2, rv x2), (3, .int x3)]) dX12_parameters_6 (by decide) rfl ?_
  refine xP.pick (lv' := [(0, rv x0), (2, rv x2), (3, .int x3), (4, .int (aI h (fR h x0 3103) (Int32.toNatClampNeg x1)))]) [1, 3, 4, 0] rfl ?_
  exact hq
theorem rX12_parameters {G : xG} {fr lo : Nat} {x0 : Nat} {x1 : Int32} {x2 : Nat} {x3 : Int32} {h : xH} {Q : Outcome → xH → Prop} (hq : bX12_parameters G fr lo x0 x1 x2 x3 h Q) : xR G YX12_parameters fr lo [rv x0, .int x1, rv x2, .int x3] h Q := by
  show xP _ _ _ _ _ (lv_args 0 _) _ _ _
  rw [show lv_args 0 [rv x0, .int x1, rv x2, .int x3] = [(0, rv x0), (1, .int x1), (2, rv x2), (3, .int x3)] from (xla1 (rv_cat _) (xla1 rfl (xla1 (rv_cat _) (xla1 rfl xla0))))]
  exact uX12_parameters hq
set_option maxRecDepth 100000 in
theorem dX12_resultOf_0 : decode cX12_resultOf 0 = .ok (.aload_n 0, 1) := by decide +kernel
set_option maxRecDepth 100000 in
theorem dX12_resultOf_1 : decode cX12_resultOf 1 = .ok (.aload_n 0, 1) := by decide +kernel
set_option maxRecDepth 100000 in
theorem dX12_resultOf_2 : decode cX12_resultOf 2 = .ok (.getfield 70, 3) := by decide +kernel
set_option maxRecDepth 100000 in
theorem dX12_resultOf_5 : decode cX12_resultOf 5 = .ok (.iload_n 1, 1) := by decide +kernel
set_option maxRecDepth 100000 in
theorem dX12_resultOf_6 : decode cX12_resultOf 6 = .ok (.iaload, 1) := by decide +kernel
set_option maxRecDepth 100000 in
theorem dX12_resultOf_7 : decode cX12_resultOf 7 = .ok (.iconst 2, 1) := by decide +kernel
set_option maxRecDepth 100000 in
theorem dX12_resultOf_8 : decode cX12_resultOf 8 = .ok (.invokevirtual 838, 3) := by decide +kernel
set_option maxRecDepth 100000 in
theorem dX12_resultOf_11 : decode cX12_resultOf 11 = .ok (.getfield 612, 3) := by decide +kernel
set_option maxRecDepth 100000 in
theorem dX12_resultOf_14 : decode cX12_resultOf 14 = .ok (.astore_n 2, 1) := by decide +kernel
set_option maxRecDepth 100000 in
theorem dX12_resultOf_15 : decode cX12_resultOf 15 = .ok (.aload_n 2, 1) := by decide +kernel
set_option maxRecDepth 100000 in
theorem dX12_resultOf_16 : decode cX12_resultOf 16 = .ok (.invokevirtual 861, 3) := by decide +kernel
set_option maxRecDepth 100000 in
theorem dX12_resultOf_19 : decode cX12_resultOf 19 = .ok (.ifCond .ne 32, 3) := by decide +kernel
set_option maxRecDepth 100000 in
theorem dX12_resultOf_22 : decode cX12_resultOf 22 = .ok (.aload_n 2, 1) := by decide +kernel
set_option maxRecDepth 100000 in
theorem dX12_resultOf_23 : decode cX12_resultOf 23 = .ok (.getfield 845, 3) := by decide +kernel
set_option maxRecDepth 100000 in
theorem dX12_resultOf_26 : decode cX12_resultOf 26 = .ok (.iconst 2, 1) := by decide +kernel
set_option maxRecDepth 100000 in
theorem dX12_resultOf_27 : decode cX12_resultOf 27 = .ok (.if_icmp .eq 24, 3) := by decide +kernel
set_option maxRecDepth 100000 in
theorem dX12_resultOf_30 : decode cX12_resultOf 30 = .ok (.aload_n 2, 1) := by decide +kernel
set_option maxRecDepth 100000 in
theorem dX12_resultOf_31 : decode cX12_resultOf 31 = .ok (.getfield 845, 3) := by decide +kernel
set_option maxRecDepth 100000 in
theorem dX12_resultOf_34 : decode cX12_resultOf 34 = .ok (.bipush 11, 2) := by decide +kernel
set_option maxRecDepth 100000 in
theorem dX12_resultOf_36 : decode cX12_resultOf 36 = .ok (.if_icmp .eq 15, 3) := by decide +kernel
set_option maxRecDepth 100000 in
theorem dX12_resultOf_39 : decode cX12_resultOf 39 = .ok (.aload_n 0, 1) := by decide +kernel
set_option maxRecDepth 100000 in
theorem dX12_resultOf_40 : decode cX12_resultOf 40 = .ok (.bipush 7, 2) := by decide +kernel
set_option maxRecDepth 100000 in
theorem dX12_resultOf_42 : decode cX12_resultOf 42 = .ok (.aload_n 0, 1) := by decide +kernel
set_option maxRecDepth 100000 in
theorem dX12_resultOf_43 : decode cX12_resultOf 43 = .ok (.getfield 70, 3) := by decide +kernel
set_option maxRecDepth 100000 in
theorem dX12_resultOf_46 : decode cX12_resultOf 46 = .ok (.iload_n 1, 1) := by decide +kernel
set_option maxRecDepth 100000 in
theorem dX12_resultOf_47 : decode cX12_resultOf 47 = .ok (.iaload, 1) := by decide +kernel
set_option maxRecDepth 100000 in
theorem dX12_resultOf_48 : decode cX12_resultOf 48 = .ok (.invokevirtual 570, 3) := by decide +kernel
set_option maxRecDepth 100000 in
theorem dX12_resultOf_51 : decode cX12_resultOf 51 = .ok (.aload_n 2, 1) := by decide +kernel
set_option maxRecDepth 100000 in
theorem dX12_resultOf_52 : decode cX12_resultOf 52 = .ok (.areturn, 1) := by decide +kernel
set_option maxRecDepth 100000 in
def bX12_resultOf_51 (G : xG) (fr lo : Nat) (x2 : Nat) (h : xH) (Q : Outcome → xH → Prop) : Prop := Q (.returned (some (rv x2))) h
set_option maxRecDepth 100000 in
theorem uX12_resultOf_51 {G : xG} {fr lo : Nat} {x2 : Nat} {h : xH} {Q : Outcome → xH → Prop} (hq : bX12_resultOf_51 G fr lo x2 h Q) : xP G YX12_resultOf fr lo 51 [(2, rv x2)] [] h Q := by
  unfold bX12_resultOf_51 at hq
  refine x_aload_n 0 dX12_resultOf_51 rfl ?_
  exact x_aret rfl xty_O dX12_resultOf_52 hq
set_option maxRecDepth 100000 in
def bX12_resultOf (G : xG) (fr lo : Nat) (x0 : Nat) (x1 : Int32) (h : xH) (Q : Outcome → xH → Prop) : Prop := tg h x0 = 13 ∧ tg h (fR h x0 3102) = 100 ∧ vp_in x1 (ln h (fR h x0 3102)) ∧ 1 ≤ fr ∧ 15 ≤ lo ∧ xRr G YX12_findOf (fr - 1) (lo - 15) [rv x0, .int (aI h (fR h x0 3102) (Int32.toNatClampNeg x1)), .int 2] h (fun x7 h6 => xext h h6 → tg h6 x7 = 24 ∧ tg h6 (fR h6 x7 5890) = 14 ∧ 1 ≤ fr ∧ 12 ≤ lo ∧ xRi G YX13_isOrdinal (fr - 1) (lo - 12) [rv (fR h6 x7 5890)] h6 (fun x14 h13 => xext h6 h13 → ((¬ x14 = 0 → bX12_resultOf_51 G fr lo (fR h6 x7 5890) h13 Q) ∧ (x14 = 0 → (((fI h13 (fR h6 x7 5890) 3328) = 2 → bX12_resultOf_51 G fr lo (fR h6 x7 5890) h13 Q) ∧ (¬ (fI h13 (fR h6 x7 5890) 3328) = 2 → (((fI h13 (fR h6 x7 5890) 3328) = 11 → bX12_resultOf_51 G fr lo (fR h6 x7 5890) h13 Q) ∧ (¬ (fI h13 (fR h6 x7 5890) 3328) = 11 → tg h13 (fR h13 x0 3102) = 100 ∧ vp_in x1 (ln h13 (fR h13 x0 3102)) ∧ 1 ≤ fr ∧ 14 ≤ lo ∧ xRv G YX12_refuse (fr - 1) (lo - 14) [rv x0, .int 7, .int (aI h13 (fR h13 x0 3102) (Int32.toNatClampNeg x1))] h13 (fun h26 => xext h13 h26 → bX12_resultOf_51 G fr lo (fR h6 x7 5890) h26 Q) (fun r h2 => Q (.threw r) h2)))))))) (fun r h2 => Q (.threw r) h2)) (fun r h2 => Q (.threw r) h2)
set_option maxRecDepth 100000 in
theorem uX12_resultOf {G : xG} {fr lo : Nat} {x0 : Nat} {x1 : Int32} {h : xH} {Q : Outcome → xH → Prop} (hq : bX12_resultOf G fr lo x0 x1 h Q) : xP G YX12_resultOf fr lo 0 [(0, rv x0), (1, .int x1)] [] h Q := by
  unfold bX12_resultOf at hq
  refine x_aload_n 0 dX12_resultOf_0 rfl ?_
  refine x_aload_n 0 dX12_resultOf_1 rfl ?_
  obtain ⟨g1, hq⟩ := hq
  refine x_get (v := rv (fR h x0 3102)) fdX12_70 dX12_resultOf_2 g1 rfl ?_
  refine x_iload_n 1 dX12_resultOf_5 rfl ?_
  obtain ⟨g2, hq⟩ := hq
  obtain ⟨i3, hq⟩ := hq
  refine x_iald 0 (Or.inl rfl) g2 i3 dX12_resultOf_6 ?_
  refine x_iconst (v := 2) dX12_resultOf_7 (by decide) ?_
  obtain ⟨g4, g5, hq⟩ := hq
  refine x_callV (Yc := YX12_findOf) (as := [.int (aI h (fR h x0 3102) (Int32.toNatClampNeg x1)), .int 2]) (st := []) q4157 mvX12_findOf g1 rfl dX12_resultOf_8 (xle (xal1 (rv_cat _) (xal1 rfl (xal1 rfl xal0))) (by decide)) (xfr g4) (xlo xsw0 (by decide) g5) (xKr hq (fun x7 h6 hq e8 => ?_) (fun _ _ q _ => q))
  replace hq := hq e8
  obtain ⟨g9, hq⟩ := hq
  refine x_get (v := rv (fR h6 x7 5890)) fdX12_612 dX12_resultOf_11 g9 rfl ?_
  refine x_astore_n (lv' := [(2, rv (fR h6 x7 5890)), (0, rv x0), (1, .int x1)]) dX12_resultOf_14 (by decide) rfl ?_
  refine x_aload_n 0 dX12_resultOf_15 rfl ?_
  obtain ⟨g10, hq⟩ := hq
  obtain ⟨g11, g12, hq⟩ := hq
  refine x_callV (Yc := YX13_isOrdinal) (as := []) (st := []) q4185 mvX13_isOrdinal g10 rfl dX12_resultOf_16 (xle (xal1 (rv_cat _) xal0) (by decide)) (xfr g11) (xlo xsw0 (by decide) g12) (xKi hq (fun x14 h13 hq e15 => ?_) (fun _ _ q _ => q))
  replace hq := hq e15
  refine x_if_ne (tgt := 51) dX12_resultOf_19 (by decide) (fun c16 => ?_) (fun c16 => ?_)
  · replace hq := hq.1 c16
    refine xP.pick (lv' := [(2, rv (fR h6 x7 5890))]) [0] rfl ?_
    exact uX12_resultOf_51 hq
  · replace hq := hq.2 c16
    refine x_aload_n 0 dX12_resultOf_22 rfl ?_
    have t17 : tg h13 (fR h6 x7 5890) = 14 := e15.tg g10 (by decide)
    refine x_get (v := .int (fI h13 (fR h6 x7 5890) 3328)) fdX12_845 dX12_resultOf_23 t17 rfl ?_
    refine x_iconst (v := 2) dX12_resultOf_26 (by decide) ?_
    refine x_icmp_eq (tgt := 51) dX12_resultOf_27 (by decide) (fun c18 => ?_) (fun c18 => ?_)
    · replace hq := hq.1 c18
      refine xP.pick (lv' := [(2, rv (fR h6 x7 5890))]) [0] rfl ?_
      exact uX12_resultOf_51 hq
    · replace hq := hq.2 c18
      refine x_aload_n 0 dX12_resultOf_30 rfl ?_
      refine x_get (v := .int (fI h13 (fR h6 x7 5890) 3328)) fdX12_845 dX12_resultOf_31 t17 rfl ?_
      refine x_bipush (v := 11) dX12_resultOf_34 (by decide) ?_
      refine x_icmp_eq (tgt := 51) dX12_resultOf_36 (by decide) (fun c19 => ?_) (fun c19 => ?_)
      · replace hq := hq.1 c19
        refine xP.pick (lv' := [(2, rv (fR h6 x7 5890))]) [0] rfl ?_
        exact uX12_resultOf_51 hq
      · replace hq := hq.2 c19
        refine x_aload_n 1 dX12_resultOf_39 rfl ?_
        refine x_bipush (v := 7) dX12_resultOf_40 (by decide) ?_
        refine x_aload_n 1 dX12_resultOf_42 rfl ?_
        have t20 : tg h6 x0 = 13 := e8.tg g1 (by decide)
        have t21 : tg h13 x0 = 13 := e15.tg t20 (by decide)
        refine x_get (v := rv (fR h13 x0 3102)) fdX12_70 dX12_resultOf_43 t21 rfl ?_
        refine x_iload_n 2 dX12_resultOf_46 rfl ?_
        obtain ⟨g22, hq⟩ := hq
        obtain ⟨i23, hq⟩ := hq
        refine x_iald 0 (Or.inl rfl) g22 i23 dX12_resultOf_47 ?_
        obtain ⟨g24, g25, hq⟩ := hq
        refine x_callV (Yc := YX12_refuse) (as := [.int 7, .int (aI h13 (fR h13 x0 3102) (Int32.toNatClampNeg x1))]) (st := []) q4095 mvX12_refuse t21 rfl dX12_resultOf_48 (xle (xal1 (rv_cat _) (xal1 rfl (xal1 rfl xal0))) (by decide)) (xfr g24) (xlo xsw0 (by decide) g25) (xKv hq (fun h26 hq e28 => ?_) (fun _ _ q _ => q))
        replace hq := hq e28
        refine xP.pick (lv' := [(2, rv (fR h6 x7 5890))]) [0] rfl ?_
        exact uX12_resultOf_51 hq
theorem rX12_resultOf {G : xG} {fr lo : Nat} {x0 : Nat} {x1 : Int32} {h : xH} {Q : Outcome → xH → Prop} (hq : bX12_resultOf G fr lo x0 x1 h Q) : xR G YX12_resultOf fr lo [rv x0, .int x1] h Q := by
  show xP _ _ _ _ _ (lv_args 0 _) _ _ _
  rw [show lv_args 0 [rv x0, .int x1] = [(0, rv x0), (1, .int x1)] from (xla1 (rv_cat _) (xla1 rfl xla0))]
  exact uX12_resultOf hq
set_option maxRecDepth 100000 in
theorem dX12_pop_0 : decode cX12_pop 0 = .ok (.aload_n 0, 1) := by decide +kernel
set_option maxRecDepth 100000 in
theorem dX12_pop_1 : decode cX12_pop 1 = .ok (.getfield 134, 3) := by decide +kernel
set_option maxRecDepth 100000 in
theorem dX12_pop_4 : decode cX12_pop 4 = .ok (.aload_n 0, 1) := by decide +kernel
set_option maxRecDepth 100000 in
theorem dX12_pop_5 : decode cX12_pop 5 = .ok (.getfield 134, 3) := by decide +kernel
set_option maxRecDepth 100000 in
theorem dX12_pop_8 : decode cX12_pop 8 = .ok (.invokevirtual 554, 3) := by decide +kernel
set_option maxRecDepth 100000 in
theorem dX12_pop_11 : decode cX12_pop 11 = .ok (.iconst 1, 1) := by decide +kernel
set_option maxRecDepth 100000 in
theorem dX12_pop_12 : decode cX12_pop 12 = .ok (.isub, 1) := by decide +kernel
set_option maxRecDepth 100000 in
theorem dX12_pop_13 : decode cX12_pop 13 = .ok (.invokevirtual 582, 3) := by decide +kernel
set_option maxRecDepth 100000 in
theorem dX12_pop_16 : decode cX12_pop 16 = .ok (.checkcast 131, 3) := by decide +kernel
set_option maxRecDepth 100000 in
theorem dX12_pop_19 : decode cX12_pop 19 = .ok (.areturn, 1) := by decide +kernel
set_option maxRecDepth 100000 in
def bX12_pop (G : xG) (fr lo : Nat) (x0 : Nat) (h : xH) (Q : Outcome → xH → Prop) : Prop := tg h x0 = 13 ∧ tg h (fR h x0 3122) = 29 ∧ 1 ≤ fr ∧ 13 ≤ lo ∧ xRi G YJ2_size (fr - 1) (lo - 13) [rv (fR h x0 3122)] h (fun x6 h5 => xext h h5 → 1 ≤ fr ∧ 15 ≤ lo ∧ xRr G YJ2_remove (fr - 1) (lo - 15) [rv (fR h x0 3122), .int (x6 - 1)] h5 (fun x12 h11 => xext h5 h11 → tg h11 x12 = 29 ∧ Q (.returned (some (rv x12))) h11) (fun r h2 => Q (.threw r) h2)) (fun r h2 => Q (.threw r) h2)
set_option maxRecDepth 100000 in
theorem uX12_pop {G : xG} {fr lo : Nat} {x0 : Nat} {h : xH} {Q : Outcome → xH → Prop} (hq : bX12_pop G fr lo x0 h Q) : xP G YX12_pop fr lo 0 [(0, rv x0)] [] h Q := by
  unfold bX12_pop at hq
  refine x_aload_n 0 dX12_pop_0 rfl ?_
  obtain ⟨g1, hq⟩ := hq
  refine x_get (v := rv (fR h x0 3122)) fdX12_134 dX12_pop_1 g1 rfl ?_
  refine x_aload_n 0 dX12_pop_4 rfl ?_
  refine x_get (v := rv (fR h x0 3122)) fdX12_134 dX12_pop_5 g1 rfl ?_
  obtain ⟨g2, hq⟩ := hq
  obtain ⟨g3, g4, hq⟩ := hq
  refine x_callV (Yc := YJ2_size) (as := []) (st := [rv (fR h x0 3122)]) q4067 mvJ2_size g2 rfl dX12_pop_8 (xle (xal1 (rv_cat _) xal0) (by decide)) (xfr g3) (xlo (xsw1 (rv_cat _) xsw0) (by decide) g4) (xKi hq (fun x6 h5 hq e7 => ?_) (fun _ _ q _ => q))
  replace hq := hq e7
  refine x_iconst (v := 1) dX12_pop_11 (by decide) ?_
  refine x_isub dX12_pop_12 ?_
  have t8 : tg h5 (fR h x0 3122) = 29 := e7.tg g2 (by decide)
  obtain ⟨g9, g10, hq⟩ := hq
  refine x_callV (Yc := YJ2_remove) (as := [.int (x6 - 1)]) (st := []) q4287 mvJ2_remove t8 rfl dX12_pop_13 (xle (xal1 (rv_cat _) (xal1 rfl xal0)) (by decide)) (xfr g9) (xlo xsw0 (by decide) g10) (xKr hq (fun x12 h11 hq e13 => ?_) (fun _ _ q _ => q))
  replace hq := hq e13
  obtain ⟨g14, hq⟩ := hq
  refine x_cast (ci := 28) (by decide) rfl q3245 g14 dX12_pop_16 ?_
  exact x_aret rfl xty_O dX12_pop_19 hq
theorem rX12_pop {G : xG} {fr lo : Nat} {x0 : Nat} {h : xH} {Q : Outcome → xH → Prop} (hq : bX12_pop G fr lo x0 h Q) : xR G YX12_pop fr lo [rv x0] h Q := by
  show xP _ _ _ _ _ (lv_args 0 _) _ _ _
  rw [show lv_args 0 [rv x0] = [(0, rv x0)] from (xla1 (rv_cat _) xla0)]
  exact uX12_pop hq
set_option maxRecDepth 100000 in
theorem dX12_parameter_0 : decode cX12_parameter 0 = .ok (.aload_n 0, 1) := by decide +kernel
set_option maxRecDepth 100000 in
theorem dX12_parameter_1 : decode cX12_parameter 1 = .ok (.aload_n 3, 1) := by decide +kernel
set_option maxRecDepth 100000 in
theorem dX12_parameter_2 : decode cX12_parameter 2 = .ok (.getfield 923, 3) := by decide +kernel
set_option maxRecDepth 100000 in
theorem dX12_parameter_5 : decode cX12_parameter 5 = .ok (.aload_n 0, 1) := by decide +kernel
set_option maxRecDepth 100000 in
theorem dX12_parameter_6 : decode cX12_parameter 6 = .ok (.getfield 32, 3) := by decide +kernel
set_option maxRecDepth 100000 in
theorem dX12_parameter_9 : decode cX12_parameter 9 = .ok (.iload_n 2, 1) := by decide +kernel
set_option maxRecDepth 100000 in
theorem dX12_parameter_10 : decode cX12_parameter 10 = .ok (.iaload, 1) := by decide +kernel
set_option maxRecDepth 100000 in
theorem dX12_parameter_11 : decode cX12_parameter 11 = .ok (.invokevirtual 566, 3) := by decide +kernel
set_option maxRecDepth 100000 in
theorem dX12_parameter_14 : decode cX12_parameter 14 = .ok (.ifnull 9, 3) := by decide +kernel
set_option maxRecDepth 100000 in
theorem dX12_parameter_17 : decode cX12_parameter 17 = .ok (.aload_n 0, 1) := by decide +kernel
set_option maxRecDepth 100000 in
theorem dX12_parameter_18 : decode cX12_parameter 18 = .ok (.iconst 5, 1) := by decide +kernel
set_option maxRecDepth 100000 in
theorem dX12_parameter_19 : decode cX12_parameter 19 = .ok (.iload_n 2, 1) := by decide +kernel
set_option maxRecDepth 100000 in
theorem dX12_parameter_20 : decode cX12_parameter 20 = .ok (.invokevirtual 570, 3) := by decide +kernel
set_option maxRecDepth 100000 in
theorem dX12_parameter_23 : decode cX12_parameter 23 = .ok (.aload_n 3, 1) := by decide +kernel
set_option maxRecDepth 100000 in
theorem dX12_parameter_24 : decode cX12_parameter 24 = .ok (.getfield 949, 3) := by decide +kernel
set_option maxRecDepth 100000 in
theorem dX12_parameter_27 : decode cX12_parameter 27 = .ok (.invokevirtual 554, 3) := by decide +kernel
set_option maxRecDepth 100000 in
theorem dX12_parameter_30 : decode cX12_parameter 30 = .ok (.bipush 30, 2) := by decide +kernel
set_option maxRecDepth 100000 in
theorem dX12_parameter_32 : decode cX12_parameter 32 = .ok (.if_icmp .ne 10, 3) := by decide +kernel
set_option maxRecDepth 100000 in
theorem dX12_parameter_35 : decode cX12_parameter 35 = .ok (.aload_n 0, 1) := by decide +kernel
set_option maxRecDepth 100000 in
theorem dX12_parameter_36 : decode cX12_parameter 36 = .ok (.bipush 9, 2) := by decide +kernel
set_option maxRecDepth 100000 in
theorem dX12_parameter_38 : decode cX12_parameter 38 = .ok (.iload_n 2, 1) := by decide +kernel
set_option maxRecDepth 100000 in
theorem dX12_parameter_39 : decode cX12_parameter 39 = .ok (.invokevirtual 570, 3) := by decide +kernel
set_option maxRecDepth 100000 in
theorem dX12_parameter_42 : decode cX12_parameter 42 = .ok (.aload_n 0, 1) := by decide +kernel
set_option maxRecDepth 100000 in
theorem dX12_parameter_43 : decode cX12_parameter 43 = .ok (.iload_n 1, 1) := by decide +kernel
set_option maxRecDepth 100000 in
theorem dX12_parameter_44 : decode cX12_parameter 44 = .ok (.iload_n 2, 1) := by decide +kernel
set_option maxRecDepth 100000 in
theorem dX12_parameter_45 : decode cX12_parameter 45 = .ok (.aload_n 3, 1) := by decide +kernel
set_option maxRecDepth 100000 in
theorem dX12_parameter_46 : decode cX12_parameter 46 = .ok (.getfield 923, 3) := by decide +kernel
set_option maxRecDepth 100000 in
theorem dX12_parameter_49 : decode cX12_parameter 49 = .ok (.invokevirtual 698, 3) := by decide +kernel
set_option maxRecDepth 100000 in
theorem dX12_parameter_52 : decode cX12_parameter 52 = .ok (.astore 5, 2) := by decide +kernel
set_option maxRecDepth 100000 in
theorem dX12_parameter_54 : decode cX12_parameter 54 = .ok (.aload 5, 2) := by decide +kernel
set_option maxRecDepth 100000 in
theorem dX12_parameter_56 : decode cX12_parameter 56 = .ok (.iconst 1, 1) := by decide +kernel
set_option maxRecDepth 100000 in
theorem dX12_parameter_57 : decode cX12_parameter 57 = .ok (.putfield 951, 3) := by decide +kernel
set_option maxRecDepth 100000 in
theorem dX12_parameter_60 : decode cX12_parameter 60 = .ok (.aload 5, 2) := by decide +kernel
set_option maxRecDepth 100000 in
theorem dX12_parameter_62 : decode cX12_parameter 62 = .ok (.iload 4, 2) := by decide +kernel
set_option maxRecDepth 100000 in
theorem dX12_parameter_64 : decode cX12_parameter 64 = .ok (.putfield 705, 3) := by decide +kernel
set_option maxRecDepth 100000 in
theorem dX12_parameter_67 : decode cX12_parameter 67 = .ok (.aload 5, 2) := by decide +kernel
set_option maxRecDepth 100000 in
theorem dX12_parameter_69 : decode cX12_parameter 69 = .ok (.aload_n 3, 1) := by decide +kernel
set_option maxRecDepth 100000 in
theorem dX12_parameter_70 : decode cX12_parameter 70 = .ok (.getfield 936, 3) := by decide +kernel
set_option maxRecDepth 100000 in
theorem dX12_parameter_73 : decode cX12_parameter 73 = .ok (.putfield 713, 3) := by decide +kernel
set_option maxRecDepth 100000 in
theorem dX12_parameter_76 : decode cX12_parameter 76 = .ok (.aload_n 3, 1) := by decide +kernel
set_option maxRecDepth 100000 in
theorem dX12_parameter_77 : decode cX12_parameter 77 = .ok (.getfield 949, 3) := by decide +kernel
set_option maxRecDepth 100000 in
theorem dX12_parameter_80 : decode cX12_parameter 80 = .ok (.aload 5, 2) := by decide +kernel
set_option maxRecDepth 100000 in
theorem dX12_parameter_82 : decode cX12_parameter 82 = .ok (.invokevirtual 579, 3) := by decide +kernel
set_option maxRecDepth 100000 in
theorem dX12_parameter_85 : decode cX12_parameter 85 = .ok (.pop, 1) := by decide +kernel
set_option maxRecDepth 100000 in
theorem dX12_parameter_86 : decode cX12_parameter 86 = .ok (.aload 5, 2) := by decide +kernel
set_option maxRecDepth 100000 in
theorem dX12_parameter_88 : decode cX12_parameter 88 = .ok (.areturn, 1) := by decide +kernel
set_option maxRecDepth 100000 in
def bX12_parameter_42 (G : xG) (fr lo : Nat) (x0 : Nat) (x1 : Int32) (x2 : Int32) (x3 : Nat) (x4 : Int32) (h : xH) (Q : Outcome → xH → Prop) : Prop := tg h x3 = 24 ∧ tg h x0 = 13 ∧ 1 ≤ fr ∧ 16 ≤ lo ∧ xRr G YX12_define (fr - 1) (lo - 16) [rv x0, .int x1, .int x2, rv (fR h x3 5911)] h (fun x6 h5 => xext h h5 → tg h5 x6 = 24 ∧ (∀ h9 : xH, h9 = sI h5 x6 5896 1 → (∀ h12 : xH, h12 = sI h9 x6 5893 x4 → (∀ h18 : xH, h18 = sI h12 x6 5894 (fI h12 x3 5914) → tg h18 (fR h18 x3 5910) = 29 ∧ 1 ≤ fr ∧ 13 ≤ lo ∧ xRi G YJ2_add (fr - 1) (lo - 13) [rv (fR h18 x3 5910), rv x6] h18 (fun x25 h24 => xext h18 h24 → Q (.returned (some (rv x6))) h24) (fun r h2 => Q (.threw r) h2))))) (fun r h2 => Q (.threw r) h2)
set_option maxRecDepth 100000 in
theorem uX12_parameter_42 {G : xG} {fr lo : Nat} {x0 : Nat} {x1 : Int32} {x2 : Int32} {x3 : Nat} {x4 : Int32} {h : xH} {Q : Outcome → xH → Prop} (hq : bX12_parameter_42 G fr lo x0 x1 x2 x3 x4 h Q) : xP G YX12_parameter fr lo 42 [(0, rv x0), (1, .int x1), (2, .int x2), (3, rv x3), (4, .int x4)] [] h Q := by
  unfold bX12_parameter_42 at hq
  refine x_aload_n 0 dX12_parameter_42 rfl ?_
  refine x_iload_n 1 dX12_parameter_43 rfl ?_
  refine x_iload_n 2 dX12_parameter_44 rfl ?_
  refine x_aload_n 3 dX12_parameter_45 rfl ?_
  obtain ⟨g1, hq⟩ := hq
  refine x_get (v := rv (fR h x3 5911)) fdX12_923 dX12_parameter_46 g1 rfl ?_
  obtain ⟨g2, hq⟩ := hq
  obtain ⟨g3, g4, hq⟩ := hq
  refine x_callV (Yc := YX12_define) (as := [.int x1, .int x2, rv (fR h x3 5911)]) (st := []) q4110 mvX12_define g2 rfl dX12_parameter_49 (xle (xal1 (rv_cat _) (xal1 rfl (xal1 rfl (xal1 (rv_cat _) xal0)))) (by decide)) (xfr g3) (xlo xsw0 (by decide) g4) (xKr hq (fun x6 h5 hq e7 => ?_) (fun _ _ q _ => q))
  replace hq := hq e7
  refine x_astore (lv' := [(5, rv x6), (0, rv x0), (1, .int x1), (2, .int x2), (3, rv x3), (4, .int x4)]) dX12_parameter_52 (by decide) rfl ?_
  refine x_aload 0 dX12_parameter_54 rfl ?_
  refine x_iconst (v := 1) dX12_parameter_56 (by decide) ?_
  obtain ⟨g8, hq⟩ := hq
  obtain ⟨h9, e10⟩ : ∃ y, y = sI h5 x6 5896 1 := ⟨_, rfl⟩
  replace hq := hq h9 e10
  refine x_putI fdX12_951 xty_Z1 dX12_parameter_57 g8 (Or.inl (by rw [g8]; rfl)) (xnB (Or.inr rfl)) rfl e10 ?_
  refine x_aload 0 dX12_parameter_60 rfl ?_
  refine x_iload 5 dX12_parameter_62 rfl ?_
  have t11 : tg h9 x6 = 24 := by rw [e10]; exact g8
  obtain ⟨h12, e13⟩ : ∃ y, y = sI h9 x6 5893 x4 := ⟨_, rfl⟩
  replace hq := hq h12 e13
  refine x_putI fdX12_705 xty_I1 dX12_parameter_64 t11 (Or.inl (by rw [t11]; rfl)) xnI rfl e13 ?_
  refine x_aload 0 dX12_parameter_67 rfl ?_
  refine x_aload_n 4 dX12_parameter_69 rfl ?_
  have t14 : tg h5 x3 = 24 := e7.tg g1 (by decide)
  have t15 : tg h9 x3 = 24 := by rw [e10]; exact t14
  have t16 : tg h12 x3 = 24 := by rw [e13]; exact t15
  refine x_get (v := .int (fI h12 x3 5914)) fdX12_936 dX12_parameter_70 t16 rfl ?_
  have t17 : tg h12 x6 = 24 := by rw [e13]; exact t11
  obtain ⟨h18, e19⟩ : ∃ y, y = sI h12 x6 5894 (fI h12 x3 5914) := ⟨_, rfl⟩
  replace hq := hq h18 e19
  refine x_putI fdX12_713 xty_I1 dX12_parameter_73 t17 (Or.inl (by rw [t17]; rfl)) xnI rfl e19 ?_
  refine x_aload_n 4 dX12_parameter_76 rfl ?_
  have t20 : tg h18 x3 = 24 := by rw [e19]; exact t16
  refine x_get (v := rv (fR h18 x3 5910)) fdX12_949 dX12_parameter_77 t20 rfl ?_
  refine x_aload 0 dX12_parameter_80 rfl ?_
  obtain ⟨g21, hq⟩ := hq
  obtain ⟨g22, g23, hq⟩ := hq
  refine x_callV (Yc := YJ2_add) (as := [rv x6]) (st := []) q4030 mvJ2_add g21 rfl dX12_parameter_82 (xle (xal1 (rv_cat _) (xal1 (rv_cat _) xal0)) (by decide)) (xfr g22) (xlo xsw0 (by decide) g23) (xKi hq (fun x25 h24 hq e26 => ?_) (fun _ _ q _ => q))
  replace hq := hq e26
  refine x_pop dX12_parameter_85 rfl ?_
  refine x_aload 0 dX12_parameter_86 rfl ?_
  exact x_aret rfl xty_O dX12_parameter_88 hq
set_option maxRecDepth 100000 in
def bX12_parameter_23 (G : xG) (fr lo : Nat) (x0 : Nat) (x1 : Int32) (x2 : Int32) (x3 : Nat) (x4 : Int32) (h : xH) (Q : Outcome → xH → Prop) : Prop := tg h x3 = 24 ∧ tg h (fR h x3 5910) = 29 ∧ 1 ≤ fr ∧ 12 ≤ lo ∧ xRi G YJ2_size (fr - 1) (lo - 12) [rv (fR h x3 5910)] h (fun x6 h5 => xext h h5 → ((¬ x6 = 30 → bX12_parameter_42 G fr lo x0 x1 x2 x3 x4 h5 Q) ∧ (x6 = 30 → tg h5 x0 = 13 ∧ 1 ≤ fr ∧ 14 ≤ lo ∧ xRv G YX12_refuse (fr - 1) (lo - 14) [rv x0, .int 9, .int x2] h5 (fun h12 => xext h5 h12 → bX12_parameter_42 G fr lo x0 x1 x2 x3 x4 h12 Q) (fun r h2 => Q (.threw r) h2)))) (fun r h2 => Q (.threw r) h2)
set_option maxRecDepth 100000 in
theorem uX12_parameter_23 {G : xG} {fr lo : Nat} {x0 : Nat} {x1 : Int32} {x2 : Int32} {x3 : Nat} {x4 : Int32} {h : xH} {Q : Outcome → xH → Prop} (hq : bX12_parameter_23 G fr lo x0 x1 x2 x3 x4 h Q) : xP G YX12_parameter fr lo 23 [(0, rv x0), (1, .int x1), (2, .int x2), (3, rv x3), (4, .int x4)] [] h Q := by
  unfold bX12_parameter_23 at hq
  refine x_aload_n 3 dX12_parameter_23 rfl ?_
  obtain ⟨g1, hq⟩ := hq
  refine x_get (v := rv (fR h x3 5910)) fdX12_949 dX12_parameter_24 g1 rfl ?_
  obtain ⟨g2, hq⟩ := hq
  obtain ⟨g3, g4, hq⟩ := hq
  refine x_callV (Yc := YJ2_size) (as := []) (st := []) q4067 mvJ2_size g2 rfl dX12_parameter_27 (xle (xal1 (rv_cat _) xal0) (by decide)) (xfr g3) (xlo xsw0 (by decide) g4) (xKi hq (fun x6 h5 hq e7 => ?_) (fun _ _ q _ => q))
  replace hq := hq e7
  refine x_bipush (v := 30) dX12_parameter_30 (by decide) ?_
  refine x_icmp_ne (tgt := 42) dX12_parameter_32 (by decide) (fun c8 => ?_) (fun c8 => ?_)
  · replace hq := hq.1 c8
    exact uX12_parameter_42 hq
  · replace hq := hq.2 c8
    refine x_aload_n 0 dX12_parameter_35 rfl ?_
    refine x_bipush (v := 9) dX12_parameter_36 (by decide) ?_
    refine x_iload_n 2 dX12_parameter_38 rfl ?_
    obtain ⟨g9, hq⟩ := hq
    obtain ⟨g10, g11, hq⟩ := hq
    refine x_callV (Yc := YX12_refuse) (as := [.int 9, .int x2]) (st := []) q4095 mvX12_refuse g9 rfl dX12_parameter_39 (xle (xal1 (rv_cat _) (xal1 rfl (xal1 rfl xal0))) (by decide)) (xfr g10) (xlo xsw0 (by decide) g11) (xKv hq (fun h12 hq e14 => ?_) (fun _ _ q _ => q))
    replace hq := hq e14
    exact uX12_parameter_42 hq
set_option maxRecDepth 100000 in
def bX12_parameter (G : xG) (fr lo : Nat) (x0 : Nat) (x1 : Int32) (x2 : Int32) (x3 : Nat) (x4 : Int32) (h : xH) (Q : Outcome → xH → Prop) : Prop := tg h x3 = 24 ∧ tg h x0 = 13 ∧ tg h (fR h x0 3084) = 100 ∧ vp_in x2 (ln h (fR h x0 3084)) ∧ 1 ≤ fr ∧ 15 ≤ lo ∧ xRr G YX12_inRegion (fr - 1) (lo - 15) [rv x0, rv (fR h x3 5911), .int (aI h (fR h x0 3084) (Int32.toNatClampNeg x2))] h (fun x8 h7 => xext h h7 → ((x8 = 0 → bX12_parameter_23 G fr lo x0 x1 x2 x3 x4 h7 Q) ∧ (¬ x8 = 0 → 1 ≤ fr ∧ 14 ≤ lo ∧ xRv G YX12_refuse (fr - 1) (lo - 14) [rv x0, .int 5, .int x2] h7 (fun h14 => xext h7 h14 → bX12_parameter_23 G fr lo x0 x1 x2 x3 x4 h14 Q) (fun r h2 => Q (.threw r) h2)))) (fun r h2 => Q (.threw r) h2)
set_option maxRecDepth 100000 in
theorem uX12_parameter {G : xG} {fr lo : Nat} {x0 : Nat} {x1 : Int32} {x2 : Int32} {x3 : Nat} {x4 : Int32} {h : xH} {Q : Outcome → xH → Prop} (hq : bX12_parameter G fr lo x0 x1 x2 x3 x4 h Q) : xP G YX12_parameter fr lo 0 [(0, rv x0), (1, .int x1), (2, .int x2), (3, rv x3), (4, .int x4)] [] h Q := by
  unfold bX12_parameter at hq
  refine x_aload_n 0 dX12_parameter_0 rfl ?_
  refine x_aload_n 3 dX12_parameter_1 rfl ?_
  obtain ⟨g1, hq⟩ := hq
  refine x_get (v := rv (fR h x3 5911)) fdX12_923 dX12_parameter_2 g1 rfl ?_
  refine x_aload_n 0 dX12_parameter_5 rfl ?_
  obtain ⟨g2, hq⟩ := hq
  refine x_get (v := rv (fR h x0 3084)) fdX12_32 dX12_parameter_6 g2 rfl ?_
  refine x_iload_n 2 dX12_parameter_9 rfl ?_
  obtain ⟨g3, hq⟩ := hq
  obtain ⟨i4, hq⟩ := hq
  refine x_iald 0 (Or.inl rfl) g3 i4 dX12_parameter_10 ?_
  obtain ⟨g5, g6, hq⟩ := hq
  refine x_callV (Yc := YX12_inRegion) (as := [rv (fR h x3 5911), .int (aI h (fR h x0 3084) (Int32.toNatClampNeg x2))]) (st := []) q4114 mvX12_inRegion g2 rfl dX12_parameter_11 (xle (xal1 (rv_cat _) (xal1 (rv_cat _) (xal1 rfl xal0))) (by decide)) (xfr g5) (xlo xsw0 (by decide) g6) (xKr hq (fun x8 h7 hq e9 => ?_) (fun _ _ q _ => q))
  replace hq := hq e9
  refine x_ifnull (tgt := 23) dX12_parameter_14 (by decide) (fun c10 => ?_) (fun c10 => ?_)
  · replace hq := hq.1 c10
    exact uX12_parameter_23 hq
  · replace hq := hq.2 c10
    refine x_aload_n 0 dX12_parameter_17 rfl ?_
    refine x_iconst (v := 5) dX12_parameter_18 (by decide) ?_
    refine x_iload_n 2 dX12_parameter_19 rfl ?_
    have t11 : tg h7 x0 = 13 := e9.tg g2 (by decide)
    obtain ⟨g12, g13, hq⟩ := hq
    refine x_callV (Yc := YX12_refuse) (as := [.int 5, .int x2]) (st := []) q4095 mvX12_refuse t11 rfl dX12_parameter_20 (xle (xal1 (rv_cat _) (xal1 rfl (xal1 rfl xal0))) (by decide)) (xfr g12) (xlo xsw0 (by decide) g13) (xKv hq (fun h14 hq e16 => ?_) (fun _ _ q _ => q))
    replace hq := hq e16
    exact uX12_parameter_23 hq
theorem rX12_parameter {G : xG} {fr lo : Nat} {x0 : Nat} {x1 : Int32} {x2 : Int32} {x3 : Nat} {x4 : Int32} {h : xH} {Q : Outcome → xH → Prop} (hq : bX12_parameter G fr lo x0 x1 x2 x3 x4 h Q) : xR G YX12_parameter fr lo [rv x0, .int x1, .int x2, rv x3, .int x4] h Q := by
  show xP _ _ _ _ _ (lv_args 0 _) _ _ _
  rw [show lv_args 0 [rv x0, .int x1, .int x2, rv x3, .int x4] = [(0, rv x0), (1, .int x1), (2, .int x2), (3, rv x3), (4, .int x4)] from (xla1 (rv_cat _) (xla1 rfl (xla1 rfl (xla1 (rv_cat _) (xla1 rfl xla0)))))]
  exact uX12_parameter hq
set_option maxRecDepth 100000 in
theorem dX12_checkStatement_0 : decode cX12_checkStatement 0 = .ok (.aload_n 0, 1) := by decide +kernel
set_option maxRecDepth 100000 in
theorem dX12_checkStatement_1 : decode cX12_checkStatement 1 = .ok (.getfield 88, 3) := by decide +kernel
set_option maxRecDepth 100000 in
theorem dX12_checkStatement_4 : decode cX12_checkStatement 4 = .ok (.iload_n 1, 1) := by decide +kernel
set_option maxRecDepth 100000 in
theorem dX12_checkStatement_5 : decode cX12_checkStatement 5 = .ok (.iaload, 1) := by decide +kernel
set_option maxRecDepth 100000 in
theorem dX12_checkStatement_6 : decode cX12_checkStatement 6 = .ok (.iconst (-1), 1) := by decide +kernel
set_option maxRecDepth 100000 in
theorem dX12_checkStatement_7 : decode cX12_checkStatement 7 = .ok (.if_icmp .eq 69, 3) := by decide +kernel
set_option maxRecDepth 100000 in
theorem dX12_checkStatement_10 : decode cX12_checkStatement 10 = .ok (.aload_n 0, 1) := by decide +kernel
set_option maxRecDepth 100000 in
theorem dX12_checkStatement_11 : decode cX12_checkStatement 11 = .ok (.aload_n 0, 1) := by decide +kernel
set_option maxRecDepth 100000 in
theorem dX12_checkStatement_12 : decode cX12_checkStatement 12 = .ok (.invokevirtual 707, 3) := by decide +kernel
set_option maxRecDepth 100000 in
theorem dX12_checkStatement_15 : decode cX12_checkStatement 15 = .ok (.aload_n 0, 1) := by decide +kernel
set_option maxRecDepth 100000 in
theorem dX12_checkStatement_16 : decode cX12_checkStatement 16 = .ok (.getfield 32, 3) := by decide +kernel
set_option maxRecDepth 100000 in
theorem dX12_checkStatement_19 : decode cX12_checkStatement 19 = .ok (.aload_n 0, 1) := by decide +kernel
set_option maxRecDepth 100000 in
theorem dX12_checkStatement_20 : decode cX12_checkStatement 20 = .ok (.getfield 88, 3) := by decide +kernel
set_option maxRecDepth 100000 in
theorem dX12_checkStatement_23 : decode cX12_checkStatement 23 = .ok (.iload_n 1, 1) := by decide +kernel
set_option maxRecDepth 100000 in
theorem dX12_checkStatement_24 : decode cX12_checkStatement 24 = .ok (.iaload, 1) := by decide +kernel
set_option maxRecDepth 100000 in
theorem dX12_checkStatement_25 : decode cX12_checkStatement 25 = .ok (.iaload, 1) := by decide +kernel
set_option maxRecDepth 100000 in
theorem dX12_checkStatement_26 : decode cX12_checkStatement 26 = .ok (.invokevirtual 749, 3) := by decide +kernel
set_option maxRecDepth 100000 in
theorem dX12_checkStatement_29 : decode cX12_checkStatement 29 = .ok (.astore_n 2, 1) := by decide +kernel
set_option maxRecDepth 100000 in
theorem dX12_checkStatement_30 : decode cX12_checkStatement 30 = .ok (.aload_n 0, 1) := by decide +kernel
set_option maxRecDepth 100000 in
theorem dX12_checkStatement_31 : decode cX12_checkStatement 31 = .ok (.getfield 32, 3) := by decide +kernel
set_option maxRecDepth 100000 in
theorem dX12_checkStatement_34 : decode cX12_checkStatement 34 = .ok (.aload_n 0, 1) := by decide +kernel
set_option maxRecDepth 100000 in
theorem dX12_checkStatement_35 : decode cX12_checkStatement 35 = .ok (.getfield 88, 3) := by decide +kernel
set_option maxRecDepth 100000 in
theorem dX12_checkStatement_38 : decode cX12_checkStatement 38 = .ok (.iload_n 1, 1) := by decide +kernel
set_option maxRecDepth 100000 in
theorem dX12_checkStatement_39 : decode cX12_checkStatement 39 = .ok (.iaload, 1) := by decide +kernel
set_option maxRecDepth 100000 in
theorem dX12_checkStatement_40 : decode cX12_checkStatement 40 = .ok (.iaload, 1) := by decide +kernel
set_option maxRecDepth 100000 in
theorem dX12_checkStatement_41 : decode cX12_checkStatement 41 = .ok (.sipush 9999, 3) := by decide +kernel
set_option maxRecDepth 100000 in
theorem dX12_checkStatement_44 : decode cX12_checkStatement 44 = .ok (.if_icmp .gt 15, 3) := by decide +kernel
set_option maxRecDepth 100000 in
theorem dX12_checkStatement_47 : decode cX12_checkStatement 47 = .ok (.aload_n 2, 1) := by decide +kernel
set_option maxRecDepth 100000 in
theorem dX12_checkStatement_48 : decode cX12_checkStatement 48 = .ok (.ifnull 11, 3) := by decide +kernel
set_option maxRecDepth 100000 in
theorem dX12_checkStatement_51 : decode cX12_checkStatement 51 = .ok (.aload_n 2, 1) := by decide +kernel
set_option maxRecDepth 100000 in
theorem dX12_checkStatement_52 : decode cX12_checkStatement 52 = .ok (.getfield 826, 3) := by decide +kernel
set_option maxRecDepth 100000 in
theorem dX12_checkStatement_55 : decode cX12_checkStatement 55 = .ok (.iconst (-1), 1) := by decide +kernel
set_option maxRecDepth 100000 in
theorem dX12_checkStatement_56 : decode cX12_checkStatement 56 = .ok (.if_icmp .eq 15, 3) := by decide +kernel
set_option maxRecDepth 100000 in
theorem dX12_checkStatement_59 : decode cX12_checkStatement 59 = .ok (.aload_n 0, 1) := by decide +kernel
set_option maxRecDepth 100000 in
theorem dX12_checkStatement_60 : decode cX12_checkStatement 60 = .ok (.bipush 12, 2) := by decide +kernel
set_option maxRecDepth 100000 in
theorem dX12_checkStatement_62 : decode cX12_checkStatement 62 = .ok (.aload_n 0, 1) := by decide +kernel
set_option maxRecDepth 100000 in
theorem dX12_checkStatement_63 : decode cX12_checkStatement 63 = .ok (.getfield 88, 3) := by decide +kernel
set_option maxRecDepth 100000 in
theorem dX12_checkStatement_66 : decode cX12_checkStatement 66 = .ok (.iload_n 1, 1) := by decide +kernel
set_option maxRecDepth 100000 in
theorem dX12_checkStatement_67 : decode cX12_checkStatement 67 = .ok (.iaload, 1) := by decide +kernel
set_option maxRecDepth 100000 in
theorem dX12_checkStatement_68 : decode cX12_checkStatement 68 = .ok (.invokevirtual 570, 3) := by decide +kernel
set_option maxRecDepth 100000 in
theorem dX12_checkStatement_71 : decode cX12_checkStatement 71 = .ok (.aload_n 2, 1) := by decide +kernel
set_option maxRecDepth 100000 in
theorem dX12_checkStatement_72 : decode cX12_checkStatement 72 = .ok (.iload_n 1, 1) := by decide +kernel
set_option maxRecDepth 100000 in
theorem dX12_checkStatement_73 : decode cX12_checkStatement 73 = .ok (.putfield 826, 3) := by decide +kernel
set_option maxRecDepth 100000 in
theorem dX12_checkStatement_76 : decode cX12_checkStatement 76 = .ok (.aload_n 0, 1) := by decide +kernel
set_option maxRecDepth 100000 in
theorem dX12_checkStatement_77 : decode cX12_checkStatement 77 = .ok (.getfield 67, 3) := by decide +kernel
set_option maxRecDepth 100000 in
theorem dX12_checkStatement_80 : decode cX12_checkStatement 80 = .ok (.iload_n 1, 1) := by decide +kernel
set_option maxRecDepth 100000 in
theorem dX12_checkStatement_81 : decode cX12_checkStatement 81 = .ok (.iaload, 1) := by decide +kernel
set_option maxRecDepth 100000 in
theorem dX12_checkStatement_82 : decode cX12_checkStatement 82 = .ok (.tableswitch 238 31 41 #[58, 88, 190, 238, 88, 139, 198, 206, 214, 222, 230], 58) := by decide +kernel
set_option maxRecDepth 100000 in
theorem dX12_checkStatement_140 : decode cX12_checkStatement 140 = .ok (.aload_n 0, 1) := by decide +kernel
set_option maxRecDepth 100000 in
theorem dX12_checkStatement_141 : decode cX12_checkStatement 141 = .ok (.getfield 73, 3) := by decide +kernel
set_option maxRecDepth 100000 in
theorem dX12_checkStatement_144 : decode cX12_checkStatement 144 = .ok (.iload_n 1, 1) := by decide +kernel
set_option maxRecDepth 100000 in
theorem dX12_checkStatement_145 : decode cX12_checkStatement 145 = .ok (.iaload, 1) := by decide +kernel
set_option maxRecDepth 100000 in
theorem dX12_checkStatement_146 : decode cX12_checkStatement 146 = .ok (.istore_n 2, 1) := by decide +kernel
set_option maxRecDepth 100000 in
theorem dX12_checkStatement_147 : decode cX12_checkStatement 147 = .ok (.iload_n 2, 1) := by decide +kernel
set_option maxRecDepth 100000 in
theorem dX12_checkStatement_148 : decode cX12_checkStatement 148 = .ok (.iconst (-1), 1) := by decide +kernel
set_option maxRecDepth 100000 in
theorem dX12_checkStatement_149 : decode cX12_checkStatement 149 = .ok (.if_icmp .eq 18, 3) := by decide +kernel
set_option maxRecDepth 100000 in
theorem dX12_checkStatement_152 : decode cX12_checkStatement 152 = .ok (.aload_n 0, 1) := by decide +kernel
set_option maxRecDepth 100000 in
theorem dX12_checkStatement_153 : decode cX12_checkStatement 153 = .ok (.iload_n 2, 1) := by decide +kernel
set_option maxRecDepth 100000 in
theorem dX12_checkStatement_154 : decode cX12_checkStatement 154 = .ok (.invokevirtual 808, 3) := by decide +kernel
set_option maxRecDepth 100000 in
theorem dX12_checkStatement_157 : decode cX12_checkStatement 157 = .ok (.aload_n 0, 1) := by decide +kernel
set_option maxRecDepth 100000 in
theorem dX12_checkStatement_158 : decode cX12_checkStatement 158 = .ok (.getfield 79, 3) := by decide +kernel
set_option maxRecDepth 100000 in
theorem dX12_checkStatement_161 : decode cX12_checkStatement 161 = .ok (.iload_n 2, 1) := by decide +kernel
set_option maxRecDepth 100000 in
theorem dX12_checkStatement_162 : decode cX12_checkStatement 162 = .ok (.iaload, 1) := by decide +kernel
set_option maxRecDepth 100000 in
theorem dX12_checkStatement_163 : decode cX12_checkStatement 163 = .ok (.istore_n 2, 1) := by decide +kernel
set_option maxRecDepth 100000 in
theorem dX12_checkStatement_164 : decode cX12_checkStatement 164 = .ok (.goto (-17), 3) := by decide +kernel
set_option maxRecDepth 100000 in
theorem dX12_checkStatement_167 : decode cX12_checkStatement 167 = .ok (.goto 153, 3) := by decide +kernel
set_option maxRecDepth 100000 in
theorem dX12_checkStatement_170 : decode cX12_checkStatement 170 = .ok (.aload_n 0, 1) := by decide +kernel
set_option maxRecDepth 100000 in
theorem dX12_checkStatement_171 : decode cX12_checkStatement 171 = .ok (.aload_n 0, 1) := by decide +kernel
set_option maxRecDepth 100000 in
theorem dX12_checkStatement_172 : decode cX12_checkStatement 172 = .ok (.getfield 73, 3) := by decide +kernel
set_option maxRecDepth 100000 in
theorem dX12_checkStatement_175 : decode cX12_checkStatement 175 = .ok (.iload_n 1, 1) := by decide +kernel
set_option maxRecDepth 100000 in
theorem dX12_checkStatement_176 : decode cX12_checkStatement 176 = .ok (.iaload, 1) := by decide +kernel
set_option maxRecDepth 100000 in
theorem dX12_checkStatement_177 : decode cX12_checkStatement 177 = .ok (.aload_n 0, 1) := by decide +kernel
set_option maxRecDepth 100000 in
theorem dX12_checkStatement_178 : decode cX12_checkStatement 178 = .ok (.getfield 70, 3) := by decide +kernel
set_option maxRecDepth 100000 in
theorem dX12_checkStatement_181 : decode cX12_checkStatement 181 = .ok (.iload_n 1, 1) := by decide +kernel
set_option maxRecDepth 100000 in
theorem dX12_checkStatement_182 : decode cX12_checkStatement 182 = .ok (.iaload, 1) := by decide +kernel
set_option maxRecDepth 100000 in
theorem dX12_checkStatement_183 : decode cX12_checkStatement 183 = .ok (.invokevirtual 968, 3) := by decide +kernel
set_option maxRecDepth 100000 in
theorem dX12_checkStatement_186 : decode cX12_checkStatement 186 = .ok (.aload_n 0, 1) := by decide +kernel
set_option maxRecDepth 100000 in
theorem dX12_checkStatement_187 : decode cX12_checkStatement 187 = .ok (.getfield 79, 3) := by decide +kernel
set_option maxRecDepth 100000 in
theorem dX12_checkStatement_190 : decode cX12_checkStatement 190 = .ok (.aload_n 0, 1) := by decide +kernel
set_option maxRecDepth 100000 in
theorem dX12_checkStatement_191 : decode cX12_checkStatement 191 = .ok (.getfield 73, 3) := by decide +kernel
set_option maxRecDepth 100000 in
theorem dX12_checkStatement_194 : decode cX12_checkStatement 194 = .ok (.iload_n 1, 1) := by decide +kernel
set_option maxRecDepth 100000 in
theorem dX12_checkStatement_195 : decode cX12_checkStatement 195 = .ok (.iaload, 1) := by decide +kernel
set_option maxRecDepth 100000 in
theorem dX12_checkStatement_196 : decode cX12_checkStatement 196 = .ok (.iaload, 1) := by decide +kernel
set_option maxRecDepth 100000 in
theorem dX12_checkStatement_197 : decode cX12_checkStatement 197 = .ok (.istore_n 2, 1) := by decide +kernel
set_option maxRecDepth 100000 in
theorem dX12_checkStatement_198 : decode cX12_checkStatement 198 = .ok (.iload_n 2, 1) := by decide +kernel
set_option maxRecDepth 100000 in
theorem dX12_checkStatement_199 : decode cX12_checkStatement 199 = .ok (.iconst (-1), 1) := by decide +kernel
set_option maxRecDepth 100000 in
theorem dX12_checkStatement_200 : decode cX12_checkStatement 200 = .ok (.if_icmp .eq 18, 3) := by decide +kernel
set_option maxRecDepth 100000 in
theorem dX12_checkStatement_203 : decode cX12_checkStatement 203 = .ok (.aload_n 0, 1) := by decide +kernel
set_option maxRecDepth 100000 in
theorem dX12_checkStatement_204 : decode cX12_checkStatement 204 = .ok (.iload_n 2, 1) := by decide +kernel
set_option maxRecDepth 100000 in
theorem dX12_checkStatement_205 : decode cX12_checkStatement 205 = .ok (.invokevirtual 808, 3) := by decide +kernel
set_option maxRecDepth 100000 in
theorem dX12_checkStatement_208 : decode cX12_checkStatement 208 = .ok (.aload_n 0, 1) := by decide +kernel
set_option maxRecDepth 100000 in
theorem dX12_checkStatement_209 : decode cX12_checkStatement 209 = .ok (.getfield 79, 3) := by decide +kernel
set_option maxRecDepth 100000 in
theorem dX12_checkStatement_212 : decode cX12_checkStatement 212 = .ok (.iload_n 2, 1) := by decide +kernel
set_option maxRecDepth 100000 in
theorem dX12_checkStatement_213 : decode cX12_checkStatement 213 = .ok (.iaload, 1) := by decide +kernel
set_option maxRecDepth 100000 in
theorem dX12_checkStatement_214 : decode cX12_checkStatement 214 = .ok (.istore_n 2, 1) := by decide +kernel
set_option maxRecDepth 100000 in
theorem dX12_checkStatement_215 : decode cX12_checkStatement 215 = .ok (.goto (-17), 3) := by decide +kernel
set_option maxRecDepth 100000 in
theorem dX12_checkStatement_218 : decode cX12_checkStatement 218 = .ok (.goto 102, 3) := by decide +kernel
set_option maxRecDepth 100000 in
theorem dX12_checkStatement_221 : decode cX12_checkStatement 221 = .ok (.aload_n 0, 1) := by decide +kernel
set_option maxRecDepth 100000 in
theorem dX12_checkStatement_222 : decode cX12_checkStatement 222 = .ok (.getfield 73, 3) := by decide +kernel
set_option maxRecDepth 100000 in
theorem dX12_checkStatement_225 : decode cX12_checkStatement 225 = .ok (.aload_n 0, 1) := by decide +kernel
set_option maxRecDepth 100000 in
theorem dX12_checkStatement_226 : decode cX12_checkStatement 226 = .ok (.getfield 73, 3) := by decide +kernel
set_option maxRecDepth 100000 in
theorem dX12_checkStatement_229 : decode cX12_checkStatement 229 = .ok (.iload_n 1, 1) := by decide +kernel
set_option maxRecDepth 100000 in
theorem dX12_checkStatement_230 : decode cX12_checkStatement 230 = .ok (.iaload, 1) := by decide +kernel
set_option maxRecDepth 100000 in
theorem dX12_checkStatement_231 : decode cX12_checkStatement 231 = .ok (.iaload, 1) := by decide +kernel
set_option maxRecDepth 100000 in
theorem dX12_checkStatement_232 : decode cX12_checkStatement 232 = .ok (.istore_n 2, 1) := by decide +kernel
set_option maxRecDepth 100000 in
theorem dX12_checkStatement_233 : decode cX12_checkStatement 233 = .ok (.iload_n 2, 1) := by decide +kernel
set_option maxRecDepth 100000 in
theorem dX12_checkStatement_234 : decode cX12_checkStatement 234 = .ok (.iconst (-1), 1) := by decide +kernel
set_option maxRecDepth 100000 in
theorem dX12_checkStatement_235 : decode cX12_checkStatement 235 = .ok (.if_icmp .eq 18, 3) := by decide +kernel
set_option maxRecDepth 100000 in
theorem dX12_checkStatement_238 : decode cX12_checkStatement 238 = .ok (.aload_n 0, 1) := by decide +kernel
set_option maxRecDepth 100000 in
theorem dX12_checkStatement_239 : decode cX12_checkStatement 239 = .ok (.iload_n 2, 1) := by decide +kernel
set_option maxRecDepth 100000 in
theorem dX12_checkStatement_240 : decode cX12_checkStatement 240 = .ok (.invokevirtual 808, 3) := by decide +kernel
set_option maxRecDepth 100000 in
theorem dX12_checkStatement_243 : decode cX12_checkStatement 243 = .ok (.aload_n 0, 1) := by decide +kernel
set_option maxRecDepth 100000 in
theorem dX12_checkStatement_244 : decode cX12_checkStatement 244 = .ok (.getfield 79, 3) := by decide +kernel
set_option maxRecDepth 100000 in
theorem dX12_checkStatement_247 : decode cX12_checkStatement 247 = .ok (.iload_n 2, 1) := by decide +kernel
set_option maxRecDepth 100000 in
theorem dX12_checkStatement_248 : decode cX12_checkStatement 248 = .ok (.iaload, 1) := by decide +kernel
set_option maxRecDepth 100000 in
theorem dX12_checkStatement_249 : decode cX12_checkStatement 249 = .ok (.istore_n 2, 1) := by decide +kernel
set_option maxRecDepth 100000 in
theorem dX12_checkStatement_250 : decode cX12_checkStatement 250 = .ok (.goto (-17), 3) := by decide +kernel
set_option maxRecDepth 100000 in
theorem dX12_checkStatement_253 : decode cX12_checkStatement 253 = .ok (.aload_n 0, 1) := by decide +kernel
set_option maxRecDepth 100000 in
theorem dX12_checkStatement_254 : decode cX12_checkStatement 254 = .ok (.aload_n 0, 1) := by decide +kernel
set_option maxRecDepth 100000 in
theorem dX12_checkStatement_255 : decode cX12_checkStatement 255 = .ok (.iload_n 1, 1) := by decide +kernel
set_option maxRecDepth 100000 in
theorem dX12_checkStatement_256 : decode cX12_checkStatement 256 = .ok (.iconst 1, 1) := by decide +kernel
set_option maxRecDepth 100000 in
theorem dX12_checkStatement_257 : decode cX12_checkStatement 257 = .ok (.invokevirtual 734, 3) := by decide +kernel
set_option maxRecDepth 100000 in
theorem dX12_checkStatement_260 : decode cX12_checkStatement 260 = .ok (.aload_n 0, 1) := by decide +kernel
set_option maxRecDepth 100000 in
theorem dX12_checkStatement_261 : decode cX12_checkStatement 261 = .ok (.getfield 82, 3) := by decide +kernel
set_option maxRecDepth 100000 in
theorem dX12_checkStatement_264 : decode cX12_checkStatement 264 = .ok (.iload_n 1, 1) := by decide +kernel
set_option maxRecDepth 100000 in
theorem dX12_checkStatement_265 : decode cX12_checkStatement 265 = .ok (.iaload, 1) := by decide +kernel
set_option maxRecDepth 100000 in
theorem dX12_checkStatement_266 : decode cX12_checkStatement 266 = .ok (.invokevirtual 968, 3) := by decide +kernel
set_option maxRecDepth 100000 in
theorem dX12_checkStatement_269 : decode cX12_checkStatement 269 = .ok (.goto 51, 3) := by decide +kernel
set_option maxRecDepth 100000 in
theorem dX12_checkStatement_272 : decode cX12_checkStatement 272 = .ok (.aload_n 0, 1) := by decide +kernel
set_option maxRecDepth 100000 in
theorem dX12_checkStatement_273 : decode cX12_checkStatement 273 = .ok (.iload_n 1, 1) := by decide +kernel
set_option maxRecDepth 100000 in
theorem dX12_checkStatement_274 : decode cX12_checkStatement 274 = .ok (.invokevirtual 971, 3) := by decide +kernel
set_option maxRecDepth 100000 in
theorem dX12_checkStatement_277 : decode cX12_checkStatement 277 = .ok (.goto 43, 3) := by decide +kernel
set_option maxRecDepth 100000 in
theorem dX12_checkStatement_280 : decode cX12_checkStatement 280 = .ok (.aload_n 0, 1) := by decide +kernel
set_option maxRecDepth 100000 in
theorem dX12_checkStatement_281 : decode cX12_checkStatement 281 = .ok (.iload_n 1, 1) := by decide +kernel
set_option maxRecDepth 100000 in
theorem dX12_checkStatement_282 : decode cX12_checkStatement 282 = .ok (.invokevirtual 974, 3) := by decide +kernel
set_option maxRecDepth 100000 in
theorem dX12_checkStatement_285 : decode cX12_checkStatement 285 = .ok (.goto 35, 3) := by decide +kernel
set_option maxRecDepth 100000 in
theorem dX12_checkStatement_288 : decode cX12_checkStatement 288 = .ok (.aload_n 0, 1) := by decide +kernel
set_option maxRecDepth 100000 in
theorem dX12_checkStatement_289 : decode cX12_checkStatement 289 = .ok (.iload_n 1, 1) := by decide +kernel
set_option maxRecDepth 100000 in
theorem dX12_checkStatement_290 : decode cX12_checkStatement 290 = .ok (.invokevirtual 977, 3) := by decide +kernel
set_option maxRecDepth 100000 in
theorem dX12_checkStatement_293 : decode cX12_checkStatement 293 = .ok (.goto 27, 3) := by decide +kernel
set_option maxRecDepth 100000 in
theorem dX12_checkStatement_296 : decode cX12_checkStatement 296 = .ok (.aload_n 0, 1) := by decide +kernel
set_option maxRecDepth 100000 in
theorem dX12_checkStatement_297 : decode cX12_checkStatement 297 = .ok (.iload_n 1, 1) := by decide +kernel
set_option maxRecDepth 100000 in
theorem dX12_checkStatement_298 : decode cX12_checkStatement 298 = .ok (.invokevirtual 980, 3) := by decide +kernel
set_option maxRecDepth 100000 in
theorem dX12_checkStatement_301 : decode cX12_checkStatement 301 = .ok (.goto 19, 3) := by decide +kernel
set_option maxRecDepth 100000 in
theorem dX12_checkStatement_304 : decode cX12_checkStatement 304 = .ok (.aload_n 0, 1) := by decide +kernel
set_option maxRecDepth 100000 in
theorem dX12_checkStatement_305 : decode cX12_checkStatement 305 = .ok (.iload_n 1, 1) := by decide +kernel
set_option maxRecDepth 100000 in
theorem dX12_checkStatement_306 : decode cX12_checkStatement 306 = .ok (.invokevirtual 983, 3) := by decide +kernel
set_option maxRecDepth 100000 in
theorem dX12_checkStatement_309 : decode cX12_checkStatement 309 = .ok (.goto 11, 3) := by decide +kernel
set_option maxRecDepth 100000 in
theorem dX12_checkStatement_312 : decode cX12_checkStatement 312 = .ok (.aload_n 0, 1) := by decide +kernel
set_option maxRecDepth 100000 in
theorem dX12_checkStatement_313 : decode cX12_checkStatement 313 = .ok (.iload_n 1, 1) := by decide +kernel
set_option maxRecDepth 100000 in
theorem dX12_checkStatement_314 : decode cX12_checkStatement 314 = .ok (.invokevirtual 986, 3) := by decide +kernel
set_option maxRecDepth 100000 in
theorem dX12_checkStatement_317 : decode cX12_checkStatement 317 = .ok (.goto 3, 3) := by decide +kernel
set_option maxRecDepth 100000 in
theorem dX12_checkStatement_320 : decode cX12_checkStatement 320 = .ok (.return_, 1) := by decide +kernel
def lX12_checkStatement_147 (G : xG) (fr lo : Nat) (x0 : Nat) (x2 : Int32) (h : xH) (Q : Outcome → xH → Prop) : Prop := xP G YX12_checkStatement fr lo 147 [(0, rv x0), (2, .int x2)] [] h Q
def lX12_checkStatement_198 (G : xG) (fr lo : Nat) (x0 : Nat) (x2 : Int32) (h : xH) (Q : Outcome → xH → Prop) : Prop := xP G YX12_checkStatement fr lo 198 [(0, rv x0), (2, .int x2)] [] h Q
def lX12_checkStatement_233 (G : xG) (fr lo : Nat) (x0 : Nat) (x1 : Int32) (x2 : Int32) (h : xH) (Q : Outcome → xH → Prop) : Prop := xP G YX12_checkStatement fr lo 233 [(0, rv x0), (1, .int x1), (2, .int x2)] [] h Q
set_option maxRecDepth 100000 in
def bX12_checkStatement_320 (G : xG) (fr lo : Nat) (h : xH) (Q : Outcome → xH → Prop) : Prop := Q (.returned none) h
set_option maxRecDepth 100000 in
theorem uX12_checkStatement_320 {G : xG} {fr lo : Nat} {h : xH} {Q : Outcome → xH → Prop} (hq : bX12_checkStatement_320 G fr lo h Q) : xP G YX12_checkStatement fr lo 320 [] [] h Q := by
  unfold bX12_checkStatement_320 at hq
  exact x_vret rfl dX12_checkStatement_320 hq
set_option maxRecDepth 100000 in
def bX12_checkStatement_233 (G : xG) (fr lo : Nat) (x0 : Nat) (x1 : Int32) (x2 : Int32) (h : xH) (Q : Outcome → xH → Prop) : Prop := ((x2 = (-1) → tg h x0 = 13 ∧ 1 ≤ fr ∧ 17 ≤ lo ∧ xRi G YX12_child (fr - 1) (lo - 17) [rv x0, .int x1, .int 1] h (fun x6 h5 => xext h h5 → tg h5 (fR h5 x0 3106) = 100 ∧ vp_in x1 (ln h5 (fR h5 x0 3106)) ∧ 1 ≤ fr ∧ 14 ≤ lo ∧ xRv G YX12_condition (fr - 1) (lo - 14) [rv x0, .int x6, .int (aI h5 (fR h5 x0 3106) (Int32.toNatClampNeg x1))] h5 (fun h13 => xext h5 h13 → bX12_checkStatement_320 G fr lo h13 Q) (fun r h2 => Q (.threw r) h2)) (fun r h2 => Q (.threw r) h2)) ∧ (¬ x2 = (-1) → tg h x0 = 13 ∧ 1 ≤ fr ∧ 14 ≤ lo ∧ xRv G YX12_checkStatement (fr - 1) (lo - 14) [rv x0, .int x2] h (fun h19 => xext h h19 → tg h19 (fR h19 x0 3105) = 100 ∧ vp_in x2 (ln h19 (fR h19 x0 3105)) ∧ lX12_checkStatement_233 G fr lo x0 x1 (aI h19 (fR h19 x0 3105) (Int32.toNatClampNeg x2)) h19 Q) (fun r h2 => Q (.threw r) h2)))
set_option maxRecDepth 100000 in
theorem uX12_checkStatement_233 {G : xG} {fr lo : Nat} {x0 : Nat} {x1 : Int32} {x2 : Int32} {h : xH} {Q : Outcome → xH → Prop} (hq : bX12_checkStatement_233 G fr lo x0 x1 x2 h Q) : xP G YX12_checkStatement fr lo 233 [(0, rv x0), (1, .int x1), (2, .int x2)] [] h Q := by
  unfold bX12_checkStatement_233 at hq
  refine x_iload_n 2 dX12_checkStatement_233 rfl ?_
  refine x_iconst (v := (-1)) dX12_checkStatement_234 (by decide) ?_
  refine x_icmp_eq (tgt := 253) dX12_checkStatement_235 (by decide) (fun c1 => ?_) (fun c1 => ?_)
  · replace hq := hq.1 c1
    refine x_aload_n 0 dX12_checkStatement_253 rfl ?_
    refine x_aload_n 0 dX12_checkStatement_254 rfl ?_
    refine x_iload_n 1 dX12_checkStatement_255 rfl ?_
    refine x_iconst (v := 1) dX12_checkStatement_256 (by decide) ?_
    obtain ⟨g2, hq⟩ := hq
    obtain ⟨g3, g4, hq⟩ := hq
    refine x_callV (Yc := YX12_child) (as := [.int x1, .int 1]) (st := [rv x0]) q4126 mvX12_child g2 rfl dX12_checkStatement_257 (xle (xal1 (rv_cat _) (xal1 rfl (xal1 rfl xal0))) (by decide)) (xfr g3) (xlo (xsw1 (rv_cat _) xsw0) (by decide) g4) (xKi hq (fun x6 h5 hq e7 => ?_) (fun _ _ q _ => q))
    replace hq := hq e7
    refine x_aload_n 0 dX12_checkStatement_260 rfl ?_
    have t8 : tg h5 x0 = 13 := e7.tg g2 (by decide)
    refine x_get (v := rv (fR h5 x0 3106)) fdX12_82 dX12_checkStatement_261 t8 rfl ?_
    refine x_iload_n 1 dX12_checkStatement_264 rfl ?_
    obtain ⟨g9, hq⟩ := hq
    obtain ⟨i10, hq⟩ := hq
    refine x_iald 0 (Or.inl rfl) g9 i10 dX12_checkStatement_265 ?_
    obtain ⟨g11, g12, hq⟩ := hq
    refine x_callV (Yc := YX12_condition) (as := [.int x6, .int (aI h5 (fR h5 x0 3106) (Int32.toNatClampNeg x1))]) (st := []) q4304 mvX12_condition t8 rfl dX12_checkStatement_266 (xle (xal1 (rv_cat _) (xal1 rfl (xal1 rfl xal0))) (by decide)) (xfr g11) (xlo xsw0 (by decide) g12) (xKv hq (fun h13 hq e15 => ?_) (fun _ _ q _ => q))
    replace hq := hq e15
    refine x_goto (tgt := 320) dX12_checkStatement_269 (by decide) ?_
    refine xP.pick (lv' := []) [] rfl ?_
    exact uX12_checkStatement_320 hq
  · replace hq := hq.2 c1
    refine x_aload_n 0 dX12_checkStatement_238 rfl ?_
    refine x_iload_n 2 dX12_checkStatement_239 rfl ?_
    obtain ⟨g16, hq⟩ := hq
    obtain ⟨g17, g18, hq⟩ := hq
    refine x_callV (Yc := YX12_checkStatement) (as := [.int x2]) (st := []) q4300 mvX12_checkStatement g16 rfl dX12_checkStatement_240 (xle (xal1 (rv_cat _) (xal1 rfl xal0)) (by decide)) (xfr g17) (xlo xsw0 (by decide) g18) (xKv hq (fun h19 hq e21 => ?_) (fun _ _ q _ => q))
    replace hq := hq e21
    refine x_aload_n 0 dX12_checkStatement_243 rfl ?_
    have t22 : tg h19 x0 = 13 := e21.tg g16 (by decide)
    refine x_get (v := rv (fR h19 x0 3105)) fdX12_79 dX12_checkStatement_244 t22 rfl ?_
    refine x_iload_n 2 dX12_checkStatement_247 rfl ?_
    obtain ⟨g23, hq⟩ := hq
    obtain ⟨i24, hq⟩ := hq
    refine x_iald 0 (Or.inl rfl) g23 i24 dX12_checkStatement_248 ?_
    refine x_istore_n (lv' := [(2, .int (aI h19 (fR h19 x0 3105) (Int32.toNatClampNeg x2))), (0, rv x0), (1, .int x1)]) dX12_checkStatement_249 (by decide) rfl ?_
    refine x_goto (tgt := 233) dX12_checkStatement_250 (by decide) ?_
    refine xP.pick (lv' := [(0, rv x0), (1, .int x1), (2, .int (aI h19 (fR h19 x0 3105) (Int32.toNatClampNeg x2)))]) [1, 2, 0] rfl ?_
    exact hq
set_option maxRecDepth 100000 in
def bX12_checkStatement_198 (G : xG) (fr lo : Nat) (x0 : Nat) (x2 : Int32) (h : xH) (Q : Outcome → xH → Prop) : Prop := ((x2 = (-1) → bX12_checkStatement_320 G fr lo h Q) ∧ (¬ x2 = (-1) → tg h x0 = 13 ∧ 1 ≤ fr ∧ 14 ≤ lo ∧ xRv G YX12_checkStatement (fr - 1) (lo - 14) [rv x0, .int x2] h (fun h5 => xext h h5 → tg h5 (fR h5 x0 3105) = 100 ∧ vp_in x2 (ln h5 (fR h5 x0 3105)) ∧ lX12_checkStatement_198 G fr lo x0 (aI h5 (fR h5 x0 3105) (Int32.toNatClampNeg x2)) h5 Q) (fun r h2 => Q (.threw r) h2)))
set_option maxRecDepth 100000 in
theorem uX12_checkStatement_198 {G : xG} {fr lo : Nat} {x0 : Nat} {x2 : Int32} {h : xH} {Q : Outcome → xH → Prop} (hq : bX12_checkStatement_198 G fr lo x0 x2 h Q) : xP G YX12_checkStatement fr lo 198 [(0, rv x0), (2, .int x2)] [] h Q := by
  unfold bX12_checkStatement_198 at hq
  refine x_iload_n 1 dX12_checkStatement_198 rfl ?_
  refine x_iconst (v := (-1)) dX12_checkStatement_199 (by decide) ?_
  refine x_icmp_eq (tgt := 218) dX12_checkStatement_200 (by decide) (fun c1 => ?_) (fun c1 => ?_)
  · replace hq := hq.1 c1
    refine x_goto (tgt := 320) dX12_checkStatement_218 (by decide) ?_
    refine xP.pick (lv' := []) [] rfl ?_
    exact uX12_checkStatement_320 hq
  · replace hq := hq.2 c1
    refine x_aload_n 0 dX12_checkStatement_203 rfl ?_
    refine x_iload_n 1 dX12_checkStatement_204 rfl ?_
    obtain ⟨g2, hq⟩ := hq
    obtain ⟨g3, g4, hq⟩ := hq
    refine x_callV (Yc := YX12_checkStatement) (as := [.int x2]) (st := []) q4300 mvX12_checkStatement g2 rfl dX12_checkStatement_205 (xle (xal1 (rv_cat _) (xal1 rfl xal0)) (by decide)) (xfr g3) (xlo xsw0 (by decide) g4) (xKv hq (fun h5 hq e7 => ?_) (fun _ _ q _ => q))
    replace hq := hq e7
    refine x_aload_n 0 dX12_checkStatement_208 rfl ?_
    have t8 : tg h5 x0 = 13 := e7.tg g2 (by decide)
    refine x_get (v := rv (fR h5 x0 3105)) fdX12_79 dX12_checkStatement_209 t8 rfl ?_
    refine x_iload_n 1 dX12_checkStatement_212 rfl ?_
    obtain ⟨g9, hq⟩ := hq
    obtain ⟨i10, hq⟩ := hq
    refine x_iald 0 (Or.inl rfl) g9 i10 dX12_checkStatement_213 ?_
    refine x_istore_n (lv' := [(2, .int (aI h5 (fR h5 x0 3105) (Int32.toNatClampNeg x2))), (0, rv x0)]) dX12_checkStatement_214 (by decide) rfl ?_
    refine x_goto (tgt := 198) dX12_checkStatement_215 (by decide) ?_
    refine xP.pick (lv' := [(0, rv x0), (2, .int (aI h5 (fR h5 x0 3105) (Int32.toNatClampNeg x2)))]) [1, 0] rfl ?_
    exact hq
set_option maxRecDepth 100000 in
def bX12_checkStatement_147 (G : xG) (fr lo : Nat) (x0 : Nat) (x2 : Int32) (h : xH) (Q : Outcome → xH → Prop) : Prop := ((x2 = (-1) → bX12_checkStatement_320 G fr lo h Q) ∧ (¬ x2 = (-1) → tg h x0 = 13 ∧ 1 ≤ fr ∧ 14 ≤ lo ∧ xRv G YX12_checkStatement (fr - 1) (lo - 14) [rv x0, .int x2] h (fun h5 => xext h h5 → tg h5 (fR h5 x0 3105) = 100 ∧ vp_in x2 (ln h5 (fR h5 x0 3105)) ∧ lX12_checkStatement_147 G fr lo x0 (aI h5 (fR h5 x0 3105) (Int32.toNatClampNeg x2)) h5 Q) (fun r h2 => Q (.threw r) h2)))
set_option maxRecDepth 100000 in
theorem uX12_checkStatement_147 {G : xG} {fr lo : Nat} {x0 : Nat} {x2 : Int32} {h : xH} {Q : Outcome → xH → Prop} (hq : bX12_checkStatement_147 G fr lo x0 x2 h Q) : xP G YX12_checkStatement fr lo 147 [(0, rv x0), (2, .int x2)] [] h Q := by
  unfold bX12_checkStatement_147 at hq
  refine x_iload_n 1 dX12_checkStatement_147 rfl ?_
  refine x_iconst (v := (-1)) dX12_checkStatement_148 (by decide) ?_
  refine x_icmp_eq (tgt := 167) dX12_checkStatement_149 (by decide) (fun c1 => ?_) (fun c1 => ?_)
  · replace hq := hq.1 c1
    refine x_goto (tgt := 320) dX12_checkStatement_167 (by decide) ?_
    refine xP.pick (lv' := []) [] rfl ?_
    exact uX12_checkStatement_320 hq
  · replace hq := hq.2 c1
    refine x_aload_n 0 dX12_checkStatement_152 rfl ?_
    refine x_iload_n 1 dX12_checkStatement_153 rfl ?_
    obtain ⟨g2, hq⟩ := hq
    obtain ⟨g3, g4, hq⟩ := hq
    refine x_callV (Yc := YX12_checkStatement) (as := [.int x2]) (st := []) q4300 mvX12_checkStatement g2 rfl dX12_checkStatement_154 (xle (xal1 (rv_cat _) (xal1 rfl xal0)) (by decide)) (xfr g3) (xlo xsw0 (by decide) g4) (xKv hq (fun h5 hq e7 => ?_) (fun _ _ q _ => q))
    replace hq := hq e7
    refine x_aload_n 0 dX12_checkStatement_157 rfl ?_
    have t8 : tg h5 x0 = 13 := e7.tg g2 (by decide)
    refine x_get (v := rv (fR h5 x0 3105)) fdX12_79 dX12_checkStatement_158 t8 rfl ?_
    refine x_iload_n 1 dX12_checkStatement_161 rfl ?_
    obtain ⟨g9, hq⟩ := hq
    obtain ⟨i10, hq⟩ := hq
    refine x_iald 0 (Or.inl rfl) g9 i10 dX12_checkStatement_162 ?_
    refine x_istore_n (lv' := [(2, .int (aI h5 (fR h5 x0 3105) (Int32.toNatClampNeg x2))), (0, rv x0)]) dX12_checkStatement_163 (by decide) rfl ?_
    refine x_goto (tgt := 147) dX12_checkStatement_164 (by decide) ?_
    refine xP.pick (lv' := [(0, rv x0), (2, .int (aI h5 (fR h5 x0 3105) (Int32.toNatClampNeg x2)))]) [1, 0] rfl ?_
    exact hq
set_option maxRecDepth 100000 in
def bX12_checkStatement_76 (G : xG) (fr lo : Nat) (x0 : Nat) (x1 : Int32) (h : xH) (Q : Outcome → xH → Prop) : Prop := tg h x0 = 13 ∧ tg h (fR h x0 3101) = 100 ∧ vp_in x1 (ln h (fR h x0 3101)) ∧ (((aI h (fR h x0 3101) (Int32.toNatClampNeg x1)) = 31 → tg h (fR h x0 3103) = 100 ∧ vp_in x1 (ln h (fR h x0 3103)) ∧ lX12_checkStatement_147 G fr lo x0 (aI h (fR h x0 3103) (Int32.toNatClampNeg x1)) h Q) ∧ ((aI h (fR h x0 3101) (Int32.toNatClampNeg x1)) = 32 → tg h (fR h x0 3103) = 100 ∧ vp_in x1 (ln h (fR h x0 3103)) ∧ tg h (fR h x0 3102) = 100 ∧ vp_in x1 (ln h (fR h x0 3102)) ∧ 1 ≤ fr ∧ 14 ≤ lo ∧ xRv G YX12_condition (fr - 1) (lo - 14) [rv x0, .int (aI h (fR h x0 3103) (Int32.toNatClampNeg x1)), .int (aI h (fR h x0 3102) (Int32.toNatClampNeg x1))] h (fun h14 => xext h h14 → tg h14 (fR h14 x0 3103) = 100 ∧ vp_in x1 (ln h14 (fR h14 x0 3103)) ∧ tg h14 (fR h14 x0 3105) = 100 ∧ vp_in (aI h14 (fR h14 x0 3103) (Int32.toNatClampNeg x1)) (ln h14 (fR h14 x0 3105)) ∧ lX12_checkStatement_198 G fr lo x0 (aI h14 (fR h14 x0 3105) (Int32.toNatClampNeg (aI h14 (fR h14 x0 3103) (Int32.toNatClampNeg x1)))) h14 Q) (fun r h2 => Q (.threw r) h2)) ∧ ((aI h (fR h x0 3101) (Int32.toNatClampNeg x1)) = 33 → 1 ≤ fr ∧ 18 ≤ lo ∧ xRv G YX12_checkCase (fr - 1) (lo - 18) [rv x0, .int x1] h (fun h25 => xext h h25 → bX12_checkStatement_320 G fr lo h25 Q) (fun r h2 => Q (.threw r) h2)) ∧ ((aI h (fR h x0 3101) (Int32.toNatClampNeg x1)) = 34 → bX12_checkStatement_320 G fr lo h Q) ∧ ((aI h (fR h x0 3101) (Int32.toNatClampNeg x1)) = 35 → tg h (fR h x0 3103) = 100 ∧ vp_in x1 (ln h (fR h x0 3103)) ∧ tg h (fR h x0 3102) = 100 ∧ vp_in x1 (ln h (fR h x0 3102)) ∧ 1 ≤ fr ∧ 14 ≤ lo ∧ xRv G YX12_condition (fr - 1) (lo - 14) [rv x0, .int (aI h (fR h x0 3103) (Int32.toNatClampNeg x1)), .int (aI h (fR h x0 3102) (Int32.toNatClampNeg x1))] h (fun h36 => xext h h36 → tg h36 (fR h36 x0 3103) = 100 ∧ vp_in x1 (ln h36 (fR h36 x0 3103)) ∧ tg h36 (fR h36 x0 3105) = 100 ∧ vp_in (aI h36 (fR h36 x0 3103) (Int32.toNatClampNeg x1)) (ln h36 (fR h36 x0 3105)) ∧ lX12_checkStatement_198 G fr lo x0 (aI h36 (fR h36 x0 3105) (Int32.toNatClampNeg (aI h36 (fR h36 x0 3103) (Int32.toNatClampNeg x1)))) h36 Q) (fun r h2 => Q (.threw r) h2)) ∧ ((aI h (fR h x0 3101) (Int32.toNatClampNeg x1)) = 36 → tg h (fR h x0 3103) = 100 ∧ vp_in x1 (ln h (fR h x0 3103)) ∧ vp_in (aI h (fR h x0 3103) (Int32.toNatClampNeg x1)) (ln h (fR h x0 3103)) ∧ lX12_checkStatement_233 G fr lo x0 x1 (aI h (fR h x0 3103) (Int32.toNatClampNeg (aI h (fR h x0 3103) (Int32.toNatClampNeg x1)))) h Q) ∧ ((aI h (fR h x0 3101) (Int32.toNatClampNeg x1)) = 37 → 1 ≤ fr ∧ 16 ≤ lo ∧ xRv G YX12_checkFor (fr - 1) (lo - 16) [rv x0, .int x1] h (fun h51 => xext h h51 → bX12_checkStatement_320 G fr lo h51 Q) (fun r h2 => Q (.threw r) h2)) ∧ ((aI h (fR h x0 3101) (Int32.toNatClampNeg x1)) = 38 → 1 ≤ fr ∧ 16 ≤ lo ∧ xRv G YX12_checkWith (fr - 1) (lo - 16) [rv x0, .int x1] h (fun h57 => xext h h57 → bX12_checkStatement_320 G fr lo h57 Q) (fun r h2 => Q (.threw r) h2)) ∧ ((aI h (fR h x0 3101) (Int32.toNatClampNeg x1)) = 39 → 1 ≤ fr ∧ 16 ≤ lo ∧ xRv G YX12_checkGoto (fr - 1) (lo - 16) [rv x0, .int x1] h (fun h63 => xext h h63 → bX12_checkStatement_320 G fr lo h63 Q) (fun r h2 => Q (.threw r) h2)) ∧ ((aI h (fR h x0 3101) (Int32.toNatClampNeg x1)) = 40 → 1 ≤ fr ∧ 17 ≤ lo ∧ xRv G YX12_checkAssign (fr - 1) (lo - 17) [rv x0, .int x1] h (fun h69 => xext h h69 → bX12_checkStatement_320 G fr lo h69 Q) (fun r h2 => Q (.threw r) h2)) ∧ ((aI h (fR h x0 3101) (Int32.toNatClampNeg x1)) = 41 → 1 ≤ fr ∧ 17 ≤ lo ∧ xRv G YX12_checkCall (fr - 1) (lo - 17) [rv x0, .int x1] h (fun h75 => xext h h75 → bX12_checkStatement_320 G fr lo h75 Q) (fun r h2 => Q (.threw r) h2)) ∧ (¬ (aI h (fR h x0 3101) (Int32.toNatClampNeg x1)) = 31 → ¬ (aI h (fR h x0 3101) (Int32.toNatClampNeg x1)) = 32 → ¬ (aI h (fR h x0 3101) (Int32.toNatClampNeg x1)) = 33 → ¬ (aI h (fR h x0 3101) (Int32.toNatClampNeg x1)) = 34 → ¬ (aI h (fR h x0 3101) (Int32.toNatClampNeg x1)) = 35 → ¬ (aI h (fR h x0 3101) (Int32.toNatClampNeg x1)) = 36 → ¬ (aI h (fR h x0 3101) (Int32.toNatClampNeg x1)) = 37 → ¬ (aI h (fR h x0 3101) (Int32.toNatClampNeg x1)) = 38 → ¬ (aI h (fR h x0 3101) (Int32.toNatClampNeg x1)) = 39 → ¬ (aI h (fR h x0 3101) (Int32.toNatClampNeg x1)) = 40 → ¬ (aI h (fR h x0 3101) (Int32.toNatClampNeg x1)) = 41 → bX12_checkStatement_320 G fr lo h Q))
set_option maxRecDepth 100000 in
theorem uX12_checkStatement_76 {G : xG} {fr lo : Nat} {x0 : Nat} {x1 : Int32} {h : xH} {Q : Outcome → xH → Prop} (hq : bX12_checkStatement_76 G fr lo x0 x1 h Q) : xP G YX12_checkStatement fr lo 76 [(0, rv x0), (1, .int x1)] [] h Q := by
  unfold bX12_checkStatement_76 at hq
  refine x_aload_n 0 dX12_checkStatement_76 rfl ?_
  obtain ⟨g1, hq⟩ := hq
  refine x_get (v := rv (fR h x0 3101)) fdX12_67 dX12_checkStatement_77 g1 rfl ?_
  refine x_iload_n 1 dX12_checkStatement_80 rfl ?_
  obtain ⟨g2, hq⟩ := hq
  obtain ⟨i3, hq⟩ := hq
  refine x_iald 0 (Or.inl rfl) g2 i3 dX12_checkStatement_81 ?_
  by_cases c4 : (aI h (fR h x0 3101) (Int32.toNatClampNeg x1)) = 31
  · replace hq := hq.1 c4
    refine x_tin (tgt := 140) (off := 58) 31 c4 dX12_checkStatement_82 (by decide) (by decide) (by decide) (by decide) ?_
    refine x_aload_n 0 dX12_checkStatement_140 rfl ?_
    refine x_get (v := rv (fR h x0 3103)) fdX12_73 dX12_checkStatement_141 g1 rfl ?_
    refine x_iload_n 1 dX12_checkStatement_144 rfl ?_
    obtain ⟨g5, hq⟩ := hq
    obtain ⟨i6, hq⟩ := hq
    refine x_iald 0 (Or.inl rfl) g5 i6 dX12_checkStatement_145 ?_
    refine x_istore_n (lv' := [(2, .int (aI h (fR h x0 3103) (Int32.toNatClampNeg x1))), (0, rv x0), (1, .int x1)]) dX12_checkStatement_146 (by decide) rfl ?_
    refine xP.pick (lv' := [(0, rv x0), (2, .int (aI h (fR h x0 3103) (Int32.toNatClampNeg x1)))]) [1, 0] rfl ?_
    exact hq
  replace hq := hq.2
  by_cases c7 : (aI h (fR h x0 3101) (Int32.toNatClampNeg x1)) = 32
  · replace hq := hq.1 c7
    refine x_tin (tgt := 170) (off := 88) 32 c7 dX12_checkStatement_82 (by decide) (by decide) (by decide) (by decide) ?_
    refine x_aload_n 0 dX12_checkStatement_170 rfl ?_
    refine x_aload_n 0 dX12_checkStatement_171 rfl ?_
    refine x_get (v := rv (fR h x0 3103)) fdX12_73 dX12_checkStatement_172 g1 rfl ?_
    refine x_iload_n 1 dX12_checkStatement_175 rfl ?_
    obtain ⟨g8, hq⟩ := hq
    obtain ⟨i9, hq⟩ := hq
    refine x_iald 0 (Or.inl rfl) g8 i9 dX12_checkStatement_176 ?_
    refine x_aload_n 0 dX12_checkStatement_177 rfl ?_
    refine x_get (v := rv (fR h x0 3102)) fdX12_70 dX12_checkStatement_178 g1 rfl ?_
    refine x_iload_n 1 dX12_checkStatement_181 rfl ?_
    obtain ⟨g10, hq⟩ := hq
    obtain ⟨i11, hq⟩ := hq
    refine x_iald 0 (Or.inl rfl) g10 i11 dX12_checkStatement_182 ?_
    obtain ⟨g12, g13, hq⟩ := hq
    refine x_callV (Yc := YX12_condition) (as := [.int (aI h (fR h x0 3103) (Int32.toNatClampNeg x1)), .int (aI h (fR h x0 3102) (Int32.toNatClampNeg x1))]) (st := []) q4304 mvX12_condition g1 rfl dX12_checkStatement_183 (xle (xal1 (rv_cat _) (xal1 rfl (xal1 rfl xal0))) (by decide)) (xfr g12) (xlo xsw0 (by decide) g13) (xKv hq (fun h14 hq e16 => ?_) (fun _ _ q _ => q))
    replace hq := hq e16
    refine x_aload_n 0 dX12_checkStatement_186 rfl ?_
    have t17 : tg h14 x0 = 13 := e16.tg g1 (by decide)
    refine x_get (v := rv (fR h14 x0 3105)) fdX12_79 dX12_checkStatement_187 t17 rfl ?_
    refine x_aload_n 0 dX12_checkStatement_190 rfl ?_
    refine x_get (v := rv (fR h14 x0 3103)) fdX12_73 dX12_checkStatement_191 t17 rfl ?_
    refine x_iload_n 1 dX12_checkStatement_194 rfl ?_
    obtain ⟨g18, hq⟩ := hq
    obtain ⟨i19, hq⟩ := hq
    refine x_iald 0 (Or.inl rfl) g18 i19 dX12_checkStatement_195 ?_
    obtain ⟨g20, hq⟩ := hq
    obtain ⟨i21, hq⟩ := hq
    refine x_iald 0 (Or.inl rfl) g20 i21 dX12_checkStatement_196 ?_
    refine x_istore_n (lv' := [(2, .int (aI h14 (fR h14 x0 3105) (Int32.toNatClampNeg (aI h14 (fR h14 x0 3103) (Int32.toNatClampNeg x1))))), (0, rv x0), (1, .int x1)]) dX12_checkStatement_197 (by decide) rfl ?_
    refine xP.pick (lv' := [(0, rv x0), (2, .int (aI h14 (fR h14 x0 3105) (Int32.toNatClampNeg (aI h14 (fR h14 x0 3103) (Int32.toNatClampNeg x1)))))]) [1, 0] rfl ?_
    exact hq
  replace hq := hq.2
  by_cases c22 : (aI h (fR h x0 3101) (Int32.toNatClampNeg x1)) = 33
  · replace hq := hq.1 c22
    refine x_tin (tgt := 272) (off := 190) 33 c22 dX12_checkStatement_82 (by decide) (by decide) (by decide) (by decide) ?_
    refine x_aload_n 0 dX12_checkStatement_272 rfl ?_
    refine x_iload_n 1 dX12_checkStatement_273 rfl ?_
    obtain ⟨g23, g24, hq⟩ := hq
    refine x_callV (Yc := YX12_checkCase) (as := [.int x1]) (st := []) q4409 mvX12_checkCase g1 rfl dX12_checkStatement_274 (xle (xal1 (rv_cat _) (xal1 rfl xal0)) (by decide)) (xfr g23) (xlo xsw0 (by decide) g24) (xKv hq (fun h25 hq e27 => ?_) (fun _ _ q _ => q))
    replace hq := hq e27
    refine x_goto (tgt := 320) dX12_checkStatement_277 (by decide) ?_
    refine xP.pick (lv' := []) [] rfl ?_
    exact uX12_checkStatement_320 hq
  replace hq := hq.2
  by_cases c28 : (aI h (fR h x0 3101) (Int32.toNatClampNeg x1)) = 34
  · replace hq := hq.1 c28
    refine x_tin (tgt := 320) (off := 238) 34 c28 dX12_checkStatement_82 (by decide) (by decide) (by decide) (by decide) ?_
    refine xP.pick (lv' := []) [] rfl ?_
    exact uX12_checkStatement_320 hq
  replace hq := hq.2
  by_cases c29 : (aI h (fR h x0 3101) (Int32.toNatClampNeg x1)) = 35
  · replace hq := hq.1 c29
    refine x_tin (tgt := 170) (off := 88) 35 c29 dX12_checkStatement_82 (by decide) (by decide) (by decide) (by decide) ?_
    refine x_aload_n 0 dX12_checkStatement_170 rfl ?_
    refine x_aload_n 0 dX12_checkStatement_171 rfl ?_
    refine x_get (v := rv (fR h x0 3103)) fdX12_73 dX12_checkStatement_172 g1 rfl ?_
    refine x_iload_n 1 dX12_checkStatement_175 rfl ?_
    obtain ⟨g30, hq⟩ := hq
    obtain ⟨i31, hq⟩ := hq
    refine x_iald 0 (Or.inl rfl) g30 i31 dX12_checkStatement_176 ?_
    refine x_aload_n 0 dX12_checkStatement_177 rfl ?_
    refine x_get (v := rv (fR h x0 3102)) fdX12_70 dX12_checkStatement_178 g1 rfl ?_
    refine x_iload_n 1 dX12_checkStatement_181 rfl ?_
    obtain ⟨g32, hq⟩ := hq
    obtain ⟨i33, hq⟩ := hq
    refine x_iald 0 (Or.inl rfl) g32 i33 dX12_checkStatement_182 ?_
    obtain ⟨g34, g35, hq⟩ := hq
    refine x_callV (Yc := YX12_condition) (as := [.int (aI h (fR h x0 3103) (Int32.toNatClampNeg x1)), .int (aI h (fR h x0 3102) (Int32.toNatClampNeg x1))]) (st := []) q4304 mvX12_condition g1 rfl dX12_checkStatement_183 (xle (xal1 (rv_cat _) (xal1 rfl (xal1 rfl xal0))) (by decide)) (xfr g34) (xlo xsw0 (by decide) g35) (xKv hq (fun h36 hq e38 => ?_) (fun _ _ q _ => q))
    replace hq := hq e38
    refine x_aload_n 0 dX12_checkStatement_186 rfl ?_
    have t39 : tg h36 x0 = 13 := e38.tg g1 (by decide)
    refine x_get (v := rv (fR h36 x0 3105)) fdX12_79 dX12_checkStatement_187 t39 rfl ?_
    refine x_aload_n 0 dX12_checkStatement_190 rfl ?_
    refine x_get (v := rv (fR h36 x0 3103)) fdX12_73 dX12_checkStatement_191 t39 rfl ?_
    refine x_iload_n 1 dX12_checkStatement_194 rfl ?_
    obtain ⟨g40, hq⟩ := hq
    obtain ⟨i41, hq⟩ := hq
    refine x_iald 0 (Or.inl rfl) g40 i41 dX12_checkStatement_195 ?_
    obtain ⟨g42, hq⟩ := hq
    obtain ⟨i43, hq⟩ := hq
    refine x_iald 0 (Or.inl rfl) g42 i43 dX12_checkStatement_196 ?_
    refine x_istore_n (lv' := [(2, .int (aI h36 (fR h36 x0 3105) (Int32.toNatClampNeg (aI h36 (fR h36 x0 3103) (Int32.toNatClampNeg x1))))), (0, rv x0), (1, .int x1)]) dX12_checkStatement_197 (by decide) rfl ?_
    refine xP.pick (lv' := [(0, rv x0), (2, .int (aI h36 (fR h36 x0 3105) (Int32.toNatClampNeg (aI h36 (fR h36 x0 3103) (Int32.toNatClampNeg x1)))))]) [1, 0] rfl ?_
    exact hq
  replace hq := hq.2
  by_cases c44 : (aI h (fR h x0 3101) (Int32.toNatClampNeg x1)) = 36
  · replace hq := hq.1 c44
    refine x_tin (tgt := 221) (off := 139) 36 c44 dX12_checkStatement_82 (by decide) (by decide) (by decide) (by decide) ?_
    refine x_aload_n 0 dX12_checkStatement_221 rfl ?_
    refine x_get (v := rv (fR h x0 3103)) fdX12_73 dX12_checkStatement_222 g1 rfl ?_
    refine x_aload_n 0 dX12_checkStatement_225 rfl ?_
    refine x_get (v := rv (fR h x0 3103)) fdX12_73 dX12_checkStatement_226 g1 rfl ?_
    refine x_iload_n 1 dX12_checkStatement_229 rfl ?_
    obtain ⟨g45, hq⟩ := hq
    obtain ⟨i46, hq⟩ := hq
    refine x_iald 0 (Or.inl rfl) g45 i46 dX12_checkStatement_230 ?_
    obtain ⟨i47, hq⟩ := hq
    refine x_iald 0 (Or.inl rfl) g45 i47 dX12_checkStatement_231 ?_
    refine x_istore_n (lv' := [(2, .int (aI h (fR h x0 3103) (Int32.toNatClampNeg (aI h (fR h x0 3103) (Int32.toNatClampNeg x1))))), (0, rv x0), (1, .int x1)]) dX12_checkStatement_232 (by decide) rfl ?_
    refine xP.pick (lv' := [(0, rv x0), (1, .int x1), (2, .int (aI h (fR h x0 3103) (Int32.toNatClampNeg (aI h (fR h x0 3103) (Int32.toNatClampNeg x1)))))]) [1, 2, 0] rfl ?_
    exact hq
  replace hq := hq.2
  by_cases c48 : (aI h (fR h x0 3101) (Int32.toNatClampNeg x1)) = 37
  · replace hq := hq.1 c48
    refine x_tin (tgt := 280) (off := 198) 37 c48 dX12_checkStatement_82 (by decide) (by decide) (by decide) (by decide) ?_
    refine x_aload_n 0 dX12_checkStatement_280 rfl ?_
    refine x_iload_n 1 dX12_checkStatement_281 rfl ?_
    obtain ⟨g49, g50, hq⟩ := hq
    refine x_callV (Yc := YX12_checkFor) (as := [.int x1]) (st := []) q4413 mvX12_checkFor g1 rfl dX12_checkStatement_282 (xle (xal1 (rv_cat _) (xal1 rfl xal0)) (by decide)) (xfr g49) (xlo xsw0 (by decide) g50) (xKv hq (fun h51 hq e53 => ?_) (fun _ _ q _ => q))
    replace hq := hq e53
    refine x_goto (tgt := 320) dX12_checkStatement_285 (by decide) ?_
    refine xP.pick (lv' := []) [] rfl ?_
    exact uX12_checkStatement_320 hq
  replace hq := hq.2
  by_cases c54 : (aI h (fR h x0 3101) (Int32.toNatClampNeg x1)) = 38
  · replace hq := hq.1 c54
    refine x_tin (tgt := 288) (off := 206) 38 c54 dX12_checkStatement_82 (by decide) (by decide) (by decide) (by decide) ?_
    refine x_aload_n 0 dX12_checkStatement_288 rfl ?_
    refine x_iload_n 1 dX12_checkStatement_289 rfl ?_
    obtain ⟨g55, g56, hq⟩ := hq
    refine x_callV (Yc := YX12_checkWith) (as := [.int x1]) (st := []) q4417 mvX12_checkWith g1 rfl dX12_checkStatement_290 (xle (xal1 (rv_cat _) (xal1 rfl xal0)) (by decide)) (xfr g55) (xlo xsw0 (by decide) g56) (xKv hq (fun h57 hq e59 => ?_) (fun _ _ q _ => q))
    replace hq := hq e59
    refine x_goto (tgt := 320) dX12_checkStatement_293 (by decide) ?_
    refine xP.pick (lv' := []) [] rfl ?_
    exact uX12_checkStatement_320 hq
  replace hq := hq.2
  by_cases c60 : (aI h (fR h x0 3101) (Int32.toNatClampNeg x1)) = 39
  · replace hq := hq.1 c60
    refine x_tin (tgt := 296) (off := 214) 39 c60 dX12_checkStatement_82 (by decide) (by decide) (by decide) (by decide) ?_
    refine x_aload_n 0 dX12_checkStatement_296 rfl ?_
    refine x_iload_n 1 dX12_checkStatement_297 rfl ?_
    obtain ⟨g61, g62, hq⟩ := hq
    refine x_callV (Yc := YX12_checkGoto) (as := [.int x1]) (st := []) q4421 mvX12_checkGoto g1 rfl dX12_checkStatement_298 (xle (xal1 (rv_cat _) (xal1 rfl xal0)) (by decide)) (xfr g61) (xlo xsw0 (by decide) g62) (xKv hq (fun h63 hq e65 => ?_) (fun _ _ q _ => q))
    replace hq := hq e65
    refine x_goto (tgt := 320) dX12_checkStatement_301 (by decide) ?_
    refine xP.pick (lv' := []) [] rfl ?_
    exact uX12_checkStatement_320 hq
  replace hq := hq.2
  by_cases c66 : (aI h (fR h x0 3101) (Int32.toNatClampNeg x1)) = 40
  · replace hq := hq.1 c66
    refine x_tin (tgt := 304) (off := 222) 40 c66 dX12_checkStatement_82 (by decide) (by decide) (by decide) (by decide) ?_
    refine x_aload_n 0 dX12_checkStatement_304 rfl ?_
    refine x_iload_n 1 dX12_checkStatement_305 rfl ?_
    obtain ⟨g67, g68, hq⟩ := hq
    refine x_callV (Yc := YX12_checkAssign) (as := [.int x1]) (st := []) q4444 mvX12_checkAssign g1 rfl dX12_checkStatement_306 (xle (xal1 (rv_cat _) (xal1 rfl xal0)) (by decide)) (xfr g67) (xlo xsw0 (by decide) g68) (xKv hq (fun h69 hq e71 => ?_) (fun _ _ q _ => q))
    replace hq := hq e71
    refine x_goto (tgt := 320) dX12_checkStatement_309 (by decide) ?_
    refine xP.pick (lv' := []) [] rfl ?_
    exact uX12_checkStatement_320 hq
  replace hq := hq.2
  by_cases c72 : (aI h (fR h x0 3101) (Int32.toNatClampNeg x1)) = 41
  · replace hq := hq.1 c72
    refine x_tin (tgt := 312) (off := 230) 41 c72 dX12_checkStatement_82 (by decide) (by decide) (by decide) (by decide) ?_
    refine x_aload_n 0 dX12_checkStatement_312 rfl ?_
    refine x_iload_n 1 dX12_checkStatement_313 rfl ?_
    obtain ⟨g73, g74, hq⟩ := hq
    refine x_callV (Yc := YX12_checkCall) (as := [.int x1]) (st := []) q4448 mvX12_checkCall g1 rfl dX12_checkStatement_314 (xle (xal1 (rv_cat _) (xal1 rfl xal0)) (by decide)) (xfr g73) (xlo xsw0 (by decide) g74) (xKv hq (fun h75 hq e77 => ?_) (fun _ _ q _ => q))
    replace hq := hq e77
    refine x_goto (tgt := 320) dX12_checkStatement_317 (by decide) ?_
    refine xP.pick (lv' := []) [] rfl ?_
    exact uX12_checkStatement_320 hq
  replace hq := hq.2
  replace hq := hq c4 c7 c22 c28 c29 c44 c48 c54 c60 c66 c72
  have nc4 := lv_neT c4 (show (31 : Int32).toInt = 31 from by decide)
  have nc7 := lv_neT c7 (show (32 : Int32).toInt = 32 from by decide)
  have nc22 := lv_neT c22 (show (33 : Int32).toInt = 33 from by decide)
  have nc28 := lv_neT c28 (show (34 : Int32).toInt = 34 from by decide)
  have nc29 := lv_neT c29 (show (35 : Int32).toInt = 35 from by decide)
  have nc44 := lv_neT c44 (show (36 : Int32).toInt = 36 from by decide)
  have nc48 := lv_neT c48 (show (37 : Int32).toInt = 37 from by decide)
  have nc54 := lv_neT c54 (show (38 : Int32).toInt = 38 from by decide)
  have nc60 := lv_neT c60 (show (39 : Int32).toInt = 39 from by decide)
  have nc66 := lv_neT c66 (show (40 : Int32).toInt = 40 from by decide)
  have nc72 := lv_neT c72 (show (41 : Int32).toInt = 41 from by decide)
  refine x_tout (tgt := 320) dX12_checkStatement_82 (by omega) (by decide) ?_
  refine xP.pick (lv' := []) [] rfl ?_
  exact uX12_checkStatement_320 hq
set_option maxRecDepth 100000 in
def bX12_checkStatement_71 (G : xG) (fr lo : Nat) (x0 : Nat) (x1 : Int32) (x2 : Nat) (h : xH) (Q : Outcome → xH → Prop) : Prop := tg h x2 = 26 ∧ (∀ h2 : xH, h2 = sI h x2 6401 x1 → bX12_checkStatement_76 G fr lo x0 x1 h2 Q)
set_option maxRecDepth 100000 in
theorem uX12_checkStatement_71 {G : xG} {fr lo : Nat} {x0 : Nat} {x1 : Int32} {x2 : Nat} {h : xH} {Q : Outcome → xH → Prop} (hq : bX12_checkStatement_71 G fr lo x0 x1 x2 h Q) : xP G YX12_checkStatement fr lo 71 [(0, rv x0), (1, .int x1), (2, rv x2)] [] h Q := by
  unfold bX12_checkStatement_71 at hq
  refine x_aload_n 2 dX12_checkStatement_71 rfl ?_
  refine x_iload_n 1 dX12_checkStatement_72 rfl ?_
  obtain ⟨g1, hq⟩ := hq
  obtain ⟨h2, e3⟩ : ∃ y, y = sI h x2 6401 x1 := ⟨_, rfl⟩
  replace hq := hq h2 e3
  refine x_putI fdX12_826 xty_I1 dX12_checkStatement_73 g1 (Or.inl (by rw [g1]; rfl)) xnI rfl e3 ?_
  refine xP.pick (lv' := [(0, rv x0), (1, .int x1)]) [0, 1] rfl ?_
  exact uX12_checkStatement_76 hq
set_option maxRecDepth 100000 in
def bX12_checkStatement_59 (G : xG) (fr lo : Nat) (x0 : Nat) (x1 : Int32) (x2 : Nat) (h : xH) (Q : Outcome → xH → Prop) : Prop := tg h x0 = 13 ∧ tg h (fR h x0 3108) = 100 ∧ vp_in x1 (ln h (fR h x0 3108)) ∧ 1 ≤ fr ∧ 14 ≤ lo ∧ xRv G YX12_refuse (fr - 1) (lo - 14) [rv x0, .int 12, .int (aI h (fR h x0 3108) (Int32.toNatClampNeg x1))] h (fun h6 => xext h h6 → bX12_checkStatement_71 G fr lo x0 x1 x2 h6 Q) (fun r h2 => Q (.threw r) h2)
set_option maxRecDepth 100000 in
theorem uX12_checkStatement_59 {G : xG} {fr lo : Nat} {x0 : Nat} {x1 : Int32} {x2 : Nat} {h : xH} {Q : Outcome → xH → Prop} (hq : bX12_checkStatement_59 G fr lo x0 x1 x2 h Q) : xP G YX12_checkStatement fr lo 59 [(0, rv x0), (1, .int x1), (2, rv x2)] [] h Q := by
  unfold bX12_checkStatement_59 at hq
  refine x_aload_n 0 dX12_checkStatement_59 rfl ?_
  refine x_bipush (v := 12) dX12_checkStatement_60 (by decide) ?_
  refine x_aload_n 0 dX12_checkStatement_62 rfl ?_
  obtain ⟨g1, hq⟩ := hq
  refine x_get (v := rv (fR h x0 3108)) fdX12_88 dX12_checkStatement_63 g1 rfl ?_
  refine x_iload_n 1 dX12_checkStatement_66 rfl ?_
  obtain ⟨g2, hq⟩ := hq
  obtain ⟨i3, hq⟩ := hq
  refine x_iald 0 (Or.inl rfl) g2 i3 dX12_checkStatement_67 ?_
  obtain ⟨g4, g5, hq⟩ := hq
  refine x_callV (Yc := YX12_refuse) (as := [.int 12, .int (aI h (fR h x0 3108) (Int32.toNatClampNeg x1))]) (st := []) q4095 mvX12_refuse g1 rfl dX12_checkStatement_68 (xle (xal1 (rv_cat _) (xal1 rfl (xal1 rfl xal0))) (by decide)) (xfr g4) (xlo xsw0 (by decide) g5) (xKv hq (fun h6 hq e8 => ?_) (fun _ _ q _ => q))
  replace hq := hq e8
  exact uX12_checkStatement_71 hq
set_option maxRecDepth 100000 in
def bX12_checkStatement (G : xG) (fr lo : Nat) (x0 : Nat) (x1 : Int32) (h : xH) (Q : Outcome → xH → Prop) : Prop := tg h x0 = 13 ∧ tg h (fR h x0 3108) = 100 ∧ vp_in x1 (ln h (fR h x0 3108)) ∧ (((aI h (fR h x0 3108) (Int32.toNatClampNeg x1)) = (-1) → bX12_checkStatement_76 G fr lo x0 x1 h Q) ∧ (¬ (aI h (fR h x0 3108) (Int32.toNatClampNeg x1)) = (-1) → 1 ≤ fr ∧ 13 ≤ lo ∧ xRr G YX12_scope (fr - 1) (lo - 13) [rv x0] h (fun x8 h7 => xext h h7 → tg h7 (fR h7 x0 3108) = 100 ∧ vp_in x1 (ln h7 (fR h7 x0 3108)) ∧ tg h7 (fR h7 x0 3084) = 100 ∧ vp_in (aI h7 (fR h7 x0 3108) (Int32.toNatClampNeg x1)) (ln h7 (fR h7 x0 3084)) ∧ 1 ≤ fr ∧ 15 ≤ lo ∧ xRr G YX12_labelIn (fr - 1) (lo - 15) [rv x0, rv x8, .int (aI h7 (fR h7 x0 3084) (Int32.toNatClampNeg (aI h7 (fR h7 x0 3108) (Int32.toNatClampNeg x1))))] h7 (fun x18 h17 => xext h7 h17 → tg h17 (fR h17 x0 3108) = 100 ∧ vp_in x1 (ln h17 (fR h17 x0 3108)) ∧ tg h17 (fR h17 x0 3084) = 100 ∧ vp_in (aI h17 (fR h17 x0 3108) (Int32.toNatClampNeg x1)) (ln h17 (fR h17 x0 3084)) ∧ ((9999 < (aI h17 (fR h17 x0 3084) (Int32.toNatClampNeg (aI h17 (fR h17 x0 3108) (Int32.toNatClampNeg x1)))) → bX12_checkStatement_59 G fr lo x0 x1 x18 h17 Q) ∧ (¬ 9999 < (aI h17 (fR h17 x0 3084) (Int32.toNatClampNeg (aI h17 (fR h17 x0 3108) (Int32.toNatClampNeg x1)))) → ((x18 = 0 → bX12_checkStatement_59 G fr lo x0 x1 x18 h17 Q) ∧ (¬ x18 = 0 → tg h17 x18 = 26 ∧ (((fI h17 x18 6401) = (-1) → bX12_checkStatement_71 G fr lo x0 x1 x18 h17 Q) ∧ (¬ (fI h17 x18 6401) = (-1) → bX12_checkStatement_59 G fr lo x0 x1 x18 h17 Q))))))) (fun r h2 => Q (.threw r) h2)) (fun r h2 => Q (.threw r) h2)))
set_option maxRecDepth 100000 in
theorem uX12_checkStatement {G : xG} {fr lo : Nat} {x0 : Nat} {x1 : Int32} {h : xH} {Q : Outcome → xH → Prop} (hq : bX12_checkStatement G fr lo x0 x1 h Q) : xP G YX12_checkStatement fr lo 0 [(0, rv x0), (1, .int x1)] [] h Q := by
  unfold bX12_checkStatement at hq
  refine x_aload_n 0 dX12_checkStatement_0 rfl ?_
  obtain ⟨g1, hq⟩ := hq
  refine x_get (v := rv (fR h x0 3108)) fdX12_88 dX12_checkStatement_1 g1 rfl ?_
  refine x_iload_n 1 dX12_checkStatement_4 rfl ?_
  obtain ⟨g2, hq⟩ := hq
  obtain ⟨i3, hq⟩ := hq
  refine x_iald 0 (Or.inl rfl) g2 i3 dX12_checkStatement_5 ?_
  refine x_iconst (v := (-1)) dX12_checkStatement_6 (by decide) ?_
  refine x_icmp_eq (tgt := 76) dX12_checkStatement_7 (by decide) (fun c4 => ?_) (fun c4 => ?_)
  · replace hq := hq.1 c4
    exact uX12_checkStatement_76 hq
  · replace hq := hq.2 c4
    refine x_aload_n 0 dX12_checkStatement_10 rfl ?_
    refine x_aload_n 0 dX12_checkStatement_11 rfl ?_
    obtain ⟨g5, g6, hq⟩ := hq
    refine x_callV (Yc := YX12_scope) (as := []) (st := [rv x0]) q4122 mvX12_scope g1 rfl dX12_checkStatement_12 (xle (xal1 (rv_cat _) xal0) (by decide)) (xfr g5) (xlo (xsw1 (rv_cat _) xsw0) (by decide) g6) (xKr hq (fun x8 h7 hq e9 => ?_) (fun _ _ q _ => q))
    replace hq := hq e9
    refine x_aload_n 0 dX12_checkStatement_15 rfl ?_
    have t10 : tg h7 x0 = 13 := e9.tg g1 (by decide)
    refine x_get (v := rv (fR h7 x0 3084)) fdX12_32 dX12_checkStatement_16 t10 rfl ?_
    refine x_aload_n 0 dX12_checkStatement_19 rfl ?_
    refine x_get (v := rv (fR h7 x0 3108)) fdX12_88 dX12_checkStatement_20 t10 rfl ?_
    refine x_iload_n 1 dX12_checkStatement_23 rfl ?_
    obtain ⟨g11, hq⟩ := hq
    obtain ⟨i12, hq⟩ := hq
    refine x_iald 0 (Or.inl rfl) g11 i12 dX12_checkStatement_24 ?_
    obtain ⟨g13, hq⟩ := hq
    obtain ⟨i14, hq⟩ := hq
    refine x_iald 0 (Or.inl rfl) g13 i14 dX12_checkStatement_25 ?_
    obtain ⟨g15, g16, hq⟩ := hq
    refine x_callV (Yc := YX12_labelIn) (as := [rv x8, .int (aI h7 (fR h7 x0 3084) (Int32.toNatClampNeg (aI h7 (fR h7 x0 3108) (Int32.toNatClampNeg x1))))]) (st := []) q4134 mvX12_labelIn t10 rfl dX12_checkStatement_26 (xle (xal1 (rv_cat _) (xal1 (rv_cat _) (xal1 rfl xal0))) (by decide)) (xfr g15) (xlo xsw0 (by decide) g16) (xKr hq (fun x18 h17 hq e19 => ?_) (fun _ _ q _ => q))
    replace hq := hq e19
    refine x_astore_n (lv' := [(2, rv x18), (0, rv x0), (1, .int x1)]) dX12_checkStatement_29 (by decide) rfl ?_
    refine x_aload_n 1 dX12_checkStatement_30 rfl ?_
    have t20 : tg h17 x0 = 13 := e19.tg t10 (by decide)
    refine x_get (v := rv (fR h17 x0 3084)) fdX12_32 dX12_checkStatement_31 t20 rfl ?_
    refine x_aload_n 1 dX12_checkStatement_34 rfl ?_
    refine x_get (v := rv (fR h17 x0 3108)) fdX12_88 dX12_checkStatement_35 t20 rfl ?_
    refine x_iload_n 2 dX12_checkStatement_38 rfl ?_
    obtain ⟨g21, hq⟩ := hq
    obtain ⟨i22, hq⟩ := hq
    refine x_iald 0 (Or.inl rfl) g21 i22 dX12_checkStatement_39 ?_
    obtain ⟨g23, hq⟩ := hq
    obtain ⟨i24, hq⟩ := hq
    refine x_iald 0 (Or.inl rfl) g23 i24 dX12_checkStatement_40 ?_
    refine x_sipush (v := 9999) dX12_checkStatement_41 (by decide) ?_
    refine x_icmp_gt (tgt := 59) dX12_checkStatement_44 (by decide) (fun c25 => ?_) (fun c25 => ?_)
    · replace hq := hq.1 c25
      refine xP.pick (lv' := [(0, rv x0), (1, .int x1), (2, rv x18)]) [1, 2, 0] rfl ?_
      exact uX12_checkStatement_59 hq
    · replace hq := hq.2 c25
      refine x_aload_n 0 dX12_checkStatement_47 rfl ?_
      refine x_ifnull (tgt := 59) dX12_checkStatement_48 (by decide) (fun c26 => ?_) (fun c26 => ?_)
      · replace hq := hq.1 c26
        refine xP.pick (lv' := [(0, rv x0), (1, .int x1), (2, rv x18)]) [1, 2, 0] rfl ?_
        exact uX12_checkStatement_59 hq
      · replace hq := hq.2 c26
        refine x_aload_n 0 dX12_checkStatement_51 rfl ?_
        obtain ⟨g27, hq⟩ := hq
        refine x_get (v := .int (fI h17 x18 6401)) fdX12_826 dX12_checkStatement_52 g27 rfl ?_
        refine x_iconst (v := (-1)) dX12_checkStatement_55 (by decide) ?_
        refine x_icmp_eq (tgt := 71) dX12_checkStatement_56 (by decide) (fun c28 => ?_) (fun c28 => ?_)
        · replace hq := hq.1 c28
          refine xP.pick (lv' := [(0, rv x0), (1, .int x1), (2, rv x18)]) [1, 2, 0] rfl ?_
          exact uX12_checkStatement_71 hq
        · replace hq := hq.2 c28
          refine xP.pick (lv' := [(0, rv x0), (1, .int x1), (2, rv x18)]) [1, 2, 0] rfl ?_
          exact uX12_checkStatement_59 hq
theorem rX12_checkStatement {G : xG} {fr lo : Nat} {x0 : Nat} {x1 : Int32} {h : xH} {Q : Outcome → xH → Prop} (hq : bX12_checkStatement G fr lo x0 x1 h Q) : xR G YX12_checkStatement fr lo [rv x0, .int x1] h Q := by
  show xP _ _ _ _ _ (lv_args 0 _) _ _ _
  rw [show lv_args 0 [rv x0, .int x1] = [(0, rv x0), (1, .int x1)] from (xla1 (rv_cat _) (xla1 rfl xla0))]
  exact uX12_checkStatement hq
set_option maxRecDepth 100000 in
theorem dX12_condition_0 : decode cX12_condition 0 = .ok (.aload_n 0, 1) := by decide +kernel
set_option maxRecDepth 100000 in
theorem dX12_condition_1 : decode cX12_condition 1 = .ok (.iload_n 1, 1) := by decide +kernel
set_option maxRecDepth 100000 in
theorem dX12_condition_2 : decode cX12_condition 2 = .ok (.invokevirtual 989, 3) := by decide +kernel
set_option maxRecDepth 100000 in
theorem dX12_condition_5 : decode cX12_condition 5 = .ok (.invokevirtual 867, 3) := by decide +kernel
set_option maxRecDepth 100000 in
theorem dX12_condition_8 : decode cX12_condition 8 = .ok (.aload_n 0, 1) := by decide +kernel
set_option maxRecDepth 100000 in
theorem dX12_condition_9 : decode cX12_condition 9 = .ok (.getfield 116, 3) := by decide +kernel
set_option maxRecDepth 100000 in
theorem dX12_condition_12 : decode cX12_condition 12 = .ok (.if_acmp .eq 10, 3) := by decide +kernel
set_option maxRecDepth 100000 in
theorem dX12_condition_15 : decode cX12_condition 15 = .ok (.aload_n 0, 1) := by decide +kernel
set_option maxRecDepth 100000 in
theorem dX12_condition_16 : decode cX12_condition 16 = .ok (.bipush 7, 2) := by decide +kernel
set_option maxRecDepth 100000 in
theorem dX12_condition_18 : decode cX12_condition 18 = .ok (.iload_n 2, 1) := by decide +kernel
set_option maxRecDepth 100000 in
theorem dX12_condition_19 : decode cX12_condition 19 = .ok (.invokevirtual 570, 3) := by decide +kernel
set_option maxRecDepth 100000 in
theorem dX12_condition_22 : decode cX12_condition 22 = .ok (.return_, 1) := by decide +kernel
set_option maxRecDepth 100000 in
def bX12_condition_22 (G : xG) (fr lo : Nat) (h : xH) (Q : Outcome → xH → Prop) : Prop := Q (.returned none) h
set_option maxRecDepth 100000 in
theorem uX12_condition_22 {G : xG} {fr lo : Nat} {h : xH} {Q : Outcome → xH → Prop} (hq : bX12_condition_22 G fr lo h Q) : xP G YX12_condition fr lo 22 [] [] h Q := by
  unfold bX12_condition_22 at hq
  exact x_vret rfl dX12_condition_22 hq
set_option maxRecDepth 100000 in
def bX12_condition (G : xG) (fr lo : Nat) (x0 : Nat) (x1 : Int32) (x2 : Int32) (h : xH) (Q : Outcome → xH → Prop) : Prop := tg h x0 = 13 ∧ 1 ≤ fr ∧ 15 ≤ lo ∧ xRr G YX12_checkE (fr - 1) (lo - 15) [rv x0, .int x1] h (fun x5 h4 => xext h h4 → tg h4 x5 = 14 ∧ 1 ≤ fr ∧ 12 ≤ lo ∧ xRr G YX13_own (fr - 1) (lo - 12) [rv x5] h4 (fun x11 h10 => xext h4 h10 → ((x11 = (fR h10 x0 3117) → bX12_condition_22 G fr lo h10 Q) ∧ (¬ x11 = (fR h10 x0 3117) → 1 ≤ fr ∧ 14 ≤ lo ∧ xRv G YX12_refuse (fr - 1) (lo - 14) [rv x0, .int 7, .int x2] h10 (fun h18 => xext h10 h18 → bX12_condition_22 G fr lo h18 Q) (fun r h2 => Q (.threw r) h2)))) (fun r h2 => Q (.threw r) h2)) (fun r h2 => Q (.threw r) h2)
set_option maxRecDepth 100000 in
theorem uX12_condition {G : xG} {fr lo : Nat} {x0 : Nat} {x1 : Int32} {x2 : Int32} {h : xH} {Q : Outcome → xH → Prop} (hq : bX12_condition G fr lo x0 x1 x2 h Q) : xP G YX12_condition fr lo 0 [(0, rv x0), (1, .int x1), (2, .int x2)] [] h Q := by
  unfold bX12_condition at hq
  refine x_aload_n 0 dX12_condition_0 rfl ?_
  refine x_iload_n 1 dX12_condition_1 rfl ?_
  obtain ⟨g1, hq⟩ := hq
  obtain ⟨g2, g3, hq⟩ := hq
  refine x_callV (Yc := YX12_checkE) (as := [.int x1]) (st := []) q4308 mvX12_checkE g1 rfl dX12_condition_2 (xle (xal1 (rv_cat _) (xal1 rfl xal0)) (by decide)) (xfr g2) (xlo xsw0 (by decide) g3) (xKr hq (fun x5 h4 hq e6 => ?_) (fun _ _ q _ => q))
  replace hq := hq e6
  obtain ⟨g7, hq⟩ := hq
  obtain ⟨g8, g9, hq⟩ := hq
  refine x_callV (Yc := YX13_own) (as := []) (st := []) q4189 mvX13_own g7 rfl dX12_condition_5 (xle (xal1 (rv_cat _) xal0) (by decide)) (xfr g8) (xlo xsw0 (by decide) g9) (xKr hq (fun x11 h10 hq e12 => ?_) (fun _ _ q _ => q))
  replace hq := hq e12
  refine x_aload_n 0 dX12_condition_8 rfl ?_
  have t13 : tg h4 x0 = 13 := e6.tg g1 (by decide)
  have t14 : tg h10 x0 = 13 := e12.tg t13 (by decide)
  refine x_get (v := rv (fR h10 x0 3117)) fdX12_116 dX12_condition_9 t14 rfl ?_
  refine x_acmp_eq (tgt := 22) dX12_condition_12 (by decide) (fun c15 => ?_) (fun c15 => ?_)
  · replace hq := hq.1 c15
    refine xP.pick (lv' := []) [] rfl ?_
    exact uX12_condition_22 hq
  · replace hq := hq.2 c15
    refine x_aload_n 0 dX12_condition_15 rfl ?_
    refine x_bipush (v := 7) dX12_condition_16 (by decide) ?_
    refine x_iload_n 2 dX12_condition_18 rfl ?_
    obtain ⟨g16, g17, hq⟩ := hq
    refine x_callV (Yc := YX12_refuse) (as := [.int 7, .int x2]) (st := []) q4095 mvX12_refuse t14 rfl dX12_condition_19 (xle (xal1 (rv_cat _) (xal1 rfl (xal1 rfl xal0))) (by decide)) (xfr g16) (xlo xsw0 (by decide) g17) (xKv hq (fun h18 hq e20 => ?_) (fun _ _ q _ => q))
    replace hq := hq e20
    refine xP.pick (lv' := []) [] rfl ?_
    exact uX12_condition_22 hq
theorem rX12_condition {G : xG} {fr lo : Nat} {x0 : Nat} {x1 : Int32} {x2 : Int32} {h : xH} {Q : Outcome → xH → Prop} (hq : bX12_condition G fr lo x0 x1 x2 h Q) : xR G YX12_condition fr lo [rv x0, .int x1, .int x2] h Q := by
  show xP _ _ _ _ _ (lv_args 0 _) _ _ _
  rw [show lv_args 0 [rv x0, .int x1, .int x2] = [(0, rv x0), (1, .int x1), (2, .int x2)] from (xla1 (rv_cat _) (xla1 rfl (xla1 rfl xla0)))]
  exact uX12_condition hq
set_option maxRecDepth 100000 in
theorem dX12_checkE_0 : decode cX12_checkE 0 = .ok (.aload_n 0, 1) := by decide +kernel
set_option maxRecDepth 100000 in
theorem dX12_checkE_1 : decode cX12_checkE 1 = .ok (.aload_n 0, 1) := by decide +kernel
set_option maxRecDepth 100000 in
theorem dX12_checkE_2 : decode cX12_checkE 2 = .ok (.getfield 73, 3) := by decide +kernel
set_option maxRecDepth 100000 in
theorem dX12_checkE_5 : decode cX12_checkE 5 = .ok (.iload_n 1, 1) := by decide +kernel
set_option maxRecDepth 100000 in
theorem dX12_checkE_6 : decode cX12_checkE 6 = .ok (.iaload, 1) := by decide +kernel
set_option maxRecDepth 100000 in
theorem dX12_checkE_7 : decode cX12_checkE 7 = .ok (.invokevirtual 1059, 3) := by decide +kernel
set_option maxRecDepth 100000 in
theorem dX12_checkE_10 : decode cX12_checkE 10 = .ok (.astore_n 2, 1) := by decide +kernel
set_option maxRecDepth 100000 in
theorem dX12_checkE_11 : decode cX12_checkE 11 = .ok (.aload_n 0, 1) := by decide +kernel
set_option maxRecDepth 100000 in
theorem dX12_checkE_12 : decode cX12_checkE 12 = .ok (.getfield 82, 3) := by decide +kernel
set_option maxRecDepth 100000 in
theorem dX12_checkE_15 : decode cX12_checkE 15 = .ok (.iload_n 1, 1) := by decide +kernel
set_option maxRecDepth 100000 in
theorem dX12_checkE_16 : decode cX12_checkE 16 = .ok (.iaload, 1) := by decide +kernel
set_option maxRecDepth 100000 in
theorem dX12_checkE_17 : decode cX12_checkE 17 = .ok (.iconst (-1), 1) := by decide +kernel
set_option maxRecDepth 100000 in
theorem dX12_checkE_18 : decode cX12_checkE 18 = .ok (.if_icmp .eq 51, 3) := by decide +kernel
set_option maxRecDepth 100000 in
theorem dX12_checkE_21 : decode cX12_checkE 21 = .ok (.aload_n 0, 1) := by decide +kernel
set_option maxRecDepth 100000 in
theorem dX12_checkE_22 : decode cX12_checkE 22 = .ok (.aload_n 0, 1) := by decide +kernel
set_option maxRecDepth 100000 in
theorem dX12_checkE_23 : decode cX12_checkE 23 = .ok (.iload_n 1, 1) := by decide +kernel
set_option maxRecDepth 100000 in
theorem dX12_checkE_24 : decode cX12_checkE 24 = .ok (.iconst 1, 1) := by decide +kernel
set_option maxRecDepth 100000 in
theorem dX12_checkE_25 : decode cX12_checkE 25 = .ok (.invokevirtual 734, 3) := by decide +kernel
set_option maxRecDepth 100000 in
theorem dX12_checkE_28 : decode cX12_checkE 28 = .ok (.invokevirtual 1059, 3) := by decide +kernel
set_option maxRecDepth 100000 in
theorem dX12_checkE_31 : decode cX12_checkE 31 = .ok (.astore_n 3, 1) := by decide +kernel
set_option maxRecDepth 100000 in
theorem dX12_checkE_32 : decode cX12_checkE 32 = .ok (.aload_n 0, 1) := by decide +kernel
set_option maxRecDepth 100000 in
theorem dX12_checkE_33 : decode cX12_checkE 33 = .ok (.aload_n 2, 1) := by decide +kernel
set_option maxRecDepth 100000 in
theorem dX12_checkE_34 : decode cX12_checkE 34 = .ok (.aload_n 3, 1) := by decide +kernel
set_option maxRecDepth 100000 in
theorem dX12_checkE_35 : decode cX12_checkE 35 = .ok (.aload_n 0, 1) := by decide +kernel
set_option maxRecDepth 100000 in
theorem dX12_checkE_36 : decode cX12_checkE 36 = .ok (.getfield 26, 3) := by decide +kernel
set_option maxRecDepth 100000 in
theorem dX12_checkE_39 : decode cX12_checkE 39 = .ok (.aload_n 0, 1) := by decide +kernel
set_option maxRecDepth 100000 in
theorem dX12_checkE_40 : decode cX12_checkE 40 = .ok (.getfield 82, 3) := by decide +kernel
set_option maxRecDepth 100000 in
theorem dX12_checkE_43 : decode cX12_checkE 43 = .ok (.iload_n 1, 1) := by decide +kernel
set_option maxRecDepth 100000 in
theorem dX12_checkE_44 : decode cX12_checkE 44 = .ok (.iaload, 1) := by decide +kernel
set_option maxRecDepth 100000 in
theorem dX12_checkE_45 : decode cX12_checkE 45 = .ok (.iaload, 1) := by decide +kernel
set_option maxRecDepth 100000 in
theorem dX12_checkE_46 : decode cX12_checkE 46 = .ok (.invokevirtual 1062, 3) := by decide +kernel
set_option maxRecDepth 100000 in
theorem dX12_checkE_49 : decode cX12_checkE 49 = .ok (.ifCond .ne 15, 3) := by decide +kernel
set_option maxRecDepth 100000 in
theorem dX12_checkE_52 : decode cX12_checkE 52 = .ok (.aload_n 0, 1) := by decide +kernel
set_option maxRecDepth 100000 in
theorem dX12_checkE_53 : decode cX12_checkE 53 = .ok (.bipush 7, 2) := by decide +kernel
set_option maxRecDepth 100000 in
theorem dX12_checkE_55 : decode cX12_checkE 55 = .ok (.aload_n 0, 1) := by decide +kernel
set_option maxRecDepth 100000 in
theorem dX12_checkE_56 : decode cX12_checkE 56 = .ok (.getfield 82, 3) := by decide +kernel
set_option maxRecDepth 100000 in
theorem dX12_checkE_59 : decode cX12_checkE 59 = .ok (.iload_n 1, 1) := by decide +kernel
set_option maxRecDepth 100000 in
theorem dX12_checkE_60 : decode cX12_checkE 60 = .ok (.iaload, 1) := by decide +kernel
set_option maxRecDepth 100000 in
theorem dX12_checkE_61 : decode cX12_checkE 61 = .ok (.invokevirtual 570, 3) := by decide +kernel
set_option maxRecDepth 100000 in
theorem dX12_checkE_64 : decode cX12_checkE 64 = .ok (.aload_n 0, 1) := by decide +kernel
set_option maxRecDepth 100000 in
theorem dX12_checkE_65 : decode cX12_checkE 65 = .ok (.getfield 116, 3) := by decide +kernel
set_option maxRecDepth 100000 in
theorem dX12_checkE_68 : decode cX12_checkE 68 = .ok (.astore_n 2, 1) := by decide +kernel
set_option maxRecDepth 100000 in
theorem dX12_checkE_69 : decode cX12_checkE 69 = .ok (.aload_n 0, 1) := by decide +kernel
set_option maxRecDepth 100000 in
theorem dX12_checkE_70 : decode cX12_checkE 70 = .ok (.getfield 96, 3) := by decide +kernel
set_option maxRecDepth 100000 in
theorem dX12_checkE_73 : decode cX12_checkE 73 = .ok (.iload_n 1, 1) := by decide +kernel
set_option maxRecDepth 100000 in
theorem dX12_checkE_74 : decode cX12_checkE 74 = .ok (.aload_n 2, 1) := by decide +kernel
set_option maxRecDepth 100000 in
theorem dX12_checkE_75 : decode cX12_checkE 75 = .ok (.aastore, 1) := by decide +kernel
set_option maxRecDepth 100000 in
theorem dX12_checkE_76 : decode cX12_checkE 76 = .ok (.aload_n 2, 1) := by decide +kernel
set_option maxRecDepth 100000 in
theorem dX12_checkE_77 : decode cX12_checkE 77 = .ok (.areturn, 1) := by decide +kernel
set_option maxRecDepth 100000 in
def bX12_checkE_69 (G : xG) (fr lo : Nat) (x0 : Nat) (x1 : Int32) (x2 : Nat) (h : xH) (Q : Outcome → xH → Prop) : Prop := tg h x0 = 13 ∧ tg h (fR h x0 3113) = 108 ∧ tg h x2 = 14 ∧ vp_in x1 (ln h (fR h x0 3113)) ∧ (∀ h5 : xH, h5 = tR h (fR h x0 3113) (Int32.toNatClampNeg x1) x2 → Q (.returned (some (rv x2))) h5)
set_option maxRecDepth 100000 in
theorem uX12_checkE_69 {G : xG} {fr lo : Nat} {x0 : Nat} {x1 : Int32} {x2 : Nat} {h : xH} {Q : Outcome → xH → Prop} (hq : bX12_checkE_69 G fr lo x0 x1 x2 h Q) : xP G YX12_checkE fr lo 69 [(0, rv x0), (1, .int x1), (2, rv x2)] [] h Q := by
  unfold bX12_checkE_69 at hq
  refine x_aload_n 0 dX12_checkE_69 rfl ?_
  obtain ⟨g1, hq⟩ := hq
  refine x_get (v := rv (fR h x0 3113)) fdX12_96 dX12_checkE_70 g1 rfl ?_
  refine x_iload_n 1 dX12_checkE_73 rfl ?_
  refine x_aload_n 2 dX12_checkE_74 rfl ?_
  obtain ⟨g2, hq⟩ := hq
  obtain ⟨g3, hq⟩ := hq
  obtain ⟨i4, hq⟩ := hq
  obtain ⟨h5, e6⟩ : ∃ y, y = tR h (fR h x0 3113) (Int32.toNatClampNeg x1) x2 := ⟨_, rfl⟩
  replace hq := hq h5 e6
  refine x_aast 8 13 as_8_13 g2 (Or.inl (by rw [g2]; rfl)) g3 i4 dX12_checkE_75 e6 ?_
  refine x_aload_n 2 dX12_checkE_76 rfl ?_
  exact x_aret rfl xty_O dX12_checkE_77 hq
set_option maxRecDepth 100000 in
def bX12_checkE_64 (G : xG) (fr lo : Nat) (x0 : Nat) (x1 : Int32) (h : xH) (Q : Outcome → xH → Prop) : Prop := tg h x0 = 13 ∧ bX12_checkE_69 G fr lo x0 x1 (fR h x0 3117) h Q
set_option maxRecDepth 100000 in
theorem uX12_checkE_64 {G : xG} {fr lo : Nat} {x0 : Nat} {x1 : Int32} {h : xH} {Q : Outcome → xH → Prop} (hq : bX12_checkE_64 G fr lo x0 x1 h Q) : xP G YX12_checkE fr lo 64 [(0, rv x0), (1, .int x1)] [] h Q := by
  unfold bX12_checkE_64 at hq
  refine x_aload_n 0 dX12_checkE_64 rfl ?_
  obtain ⟨g1, hq⟩ := hq
  refine x_get (v := rv (fR h x0 3117)) fdX12_116 dX12_checkE_65 g1 rfl ?_
  refine x_astore_n (lv' := [(2, rv (fR h x0 3117)), (0, rv x0), (1, .int x1)]) dX12_checkE_68 (by decide) rfl ?_
  refine xP.pick (lv' := [(0, rv x0), (1, .int x1), (2, rv (fR h x0 3117))]) [1, 2, 0] rfl ?_
  exact uX12_checkE_69 hq
set_option maxRecDepth 100000 in
def bX12_checkE (G : xG) (fr lo : Nat) (x0 : Nat) (x1 : Int32) (h : xH) (Q : Outcome → xH → Prop) : Prop := tg h x0 = 13 ∧ tg h (fR h x0 3103) = 100 ∧ vp_in x1 (ln h (fR h x0 3103)) ∧ 1 ≤ fr ∧ 15 ≤ lo ∧ xRr G YX12_checkSum (fr - 1) (lo - 15) [rv x0, .int (aI h (fR h x0 3103) (Int32.toNatClampNeg x1))] h (fun x7 h6 => xext h h6 → tg h6 (fR h6 x0 3106) = 100 ∧ vp_in x1 (ln h6 (fR h6 x0 3106)) ∧ (((aI h6 (fR h6 x0 3106) (Int32.toNatClampNeg x1)) = (-1) → bX12_checkE_69 G fr lo x0 x1 x7 h6 Q) ∧ (¬ (aI h6 (fR h6 x0 3106) (Int32.toNatClampNeg x1)) = (-1) → 1 ≤ fr ∧ 17 ≤ lo ∧ xRi G YX12_child (fr - 1) (lo - 17) [rv x0, .int x1, .int 1] h6 (fun x16 h15 => xext h6 h15 → 1 ≤ fr ∧ 15 ≤ lo ∧ xRr G YX12_checkSum (fr - 1) (lo - 15) [rv x0, .int x16] h15 (fun x22 h21 => xext h15 h21 → tg h21 (fR h21 x0 3106) = 100 ∧ vp_in x1 (ln h21 (fR h21 x0 3106)) ∧ tg h21 (fR h21 x0 3082) = 100 ∧ vp_in (aI h21 (fR h21 x0 3106) (Int32.toNatClampNeg x1)) (ln h21 (fR h21 x0 3082)) ∧ 1 ≤ fr ∧ 17 ≤ lo ∧ xRi G YX12_areRelated (fr - 1) (lo - 17) [rv x0, rv x7, rv x22, .int (aI h21 (fR h21 x0 3082) (Int32.toNatClampNeg (aI h21 (fR h21 x0 3106) (Int32.toNatClampNeg x1))))] h21 (fun x32 h31 => xext h21 h31 → ((¬ x32 = 0 → bX12_checkE_64 G fr lo x0 x1 h31 Q) ∧ (x32 = 0 → tg h31 (fR h31 x0 3106) = 100 ∧ vp_in x1 (ln h31 (fR h31 x0 3106)) ∧ 1 ≤ fr ∧ 14 ≤ lo ∧ xRv G YX12_refuse (fr - 1) (lo - 14) [rv x0, .int 7, .int (aI h31 (fR h31 x0 3106) (Int32.toNatClampNeg x1))] h31 (fun h40 => xext h31 h40 → bX12_checkE_64 G fr lo x0 x1 h40 Q) (fun r h2 => Q (.threw r) h2)))) (fun r h2 => Q (.threw r) h2)) (fun r h2 => Q (.threw r) h2)) (fun r h2 => Q (.threw r) h2)))) (fun r h2 => Q (.threw r) h2)
set_option maxRecDepth 100000 in
theorem uX12_checkE {G : xG} {fr lo : Nat} {x0 : Nat} {x1 : Int32} {h : xH} {Q : Outcome → xH → Prop} (hq : bX12_checkE G fr lo x0 x1 h Q) : xP G YX12_checkE fr lo 0 [(0, rv x0), (1, .int x1)] [] h Q := by
  unfold bX12_checkE at hq
  refine x_aload_n 0 dX12_checkE_0 rfl ?_
  refine x_aload_n 0 dX12_checkE_1 rfl ?_
  obtain ⟨g1, hq⟩ := hq
  refine x_get (v := rv (fR h x0 3103)) fdX12_73 dX12_checkE_2 g1 rfl ?_
  refine x_iload_n 1 dX12_checkE_5 rfl ?_
  obtain ⟨g2, hq⟩ := hq
  obtain ⟨i3, hq⟩ := hq
  refine x_iald 0 (Or.inl rfl) g2 i3 dX12_checkE_6 ?_
  obtain ⟨g4, g5, hq⟩ := hq
  refine x_callV (Yc := YX12_checkSum) (as := [.int (aI h (fR h x0 3103) (Int32.toNatClampNeg x1))]) (st := []) q4312 mvX12_checkSum g1 rfl dX12_checkE_7 (xle (xal1 (rv_cat _) (xal1 rfl xal0)) (by decide)) (xfr g4) (xlo xsw0 (by decide) g5) (xKr hq (fun x7 h6 hq e8 => ?_) (fun _ _ q _ => q))
  replace hq := hq e8
  refine x_astore_n (lv' := [(2, rv x7), (0, rv x0), (1, .int x1)]) dX12_checkE_10 (by decide) rfl ?_
  refine x_aload_n 1 dX12_checkE_11 rfl ?_
  have t9 : tg h6 x0 = 13 := e8.tg g1 (by decide)
  refine x_get (v := rv (fR h6 x0 3106)) fdX12_82 dX12_checkE_12 t9 rfl ?_
  refine x_iload_n 2 dX12_checkE_15 rfl ?_
  obtain ⟨g10, hq⟩ := hq
  obtain ⟨i11, hq⟩ := hq
  refine x_iald 0 (Or.inl rfl) g10 i11 dX12_checkE_16 ?_
  refine x_iconst (v := (-1)) dX12_checkE_17 (by decide) ?_
  refine x_icmp_eq (tgt := 69) dX12_checkE_18 (by decide) (fun c12 => ?_) (fun c12 => ?_)
  · replace hq := hq.1 c12
    refine xP.pick (lv' := [(0, rv x0), (1, .int x1), (2, rv x7)]) [1, 2, 0] rfl ?_
    exact uX12_checkE_69 hq
  · replace hq := hq.2 c12
    refine x_aload_n 1 dX12_checkE_21 rfl ?_
    refine x_aload_n 1 dX12_checkE_22 rfl ?_
    refine x_iload_n 2 dX12_checkE_23 rfl ?_
    refine x_iconst (v := 1) dX12_checkE_24 (by decide) ?_
    obtain ⟨g13, g14, hq⟩ := hq
    refine x_callV (Yc := YX12_child) (as := [.int x1, .int 1]) (st := [rv x0]) q4126 mvX12_child t9 rfl dX12_checkE_25 (xle (xal1 (rv_cat _) (xal1 rfl (xal1 rfl xal0))) (by decide)) (xfr g13) (xlo (xsw1 (rv_cat _) xsw0) (by decide) g14) (xKi hq (fun x16 h15 hq e17 => ?_) (fun _ _ q _ => q))
    replace hq := hq e17
    have t18 : tg h15 x0 = 13 := e17.tg t9 (by decide)
    obtain ⟨g19, g20, hq⟩ := hq
    refine x_callV (Yc := YX12_checkSum) (as := [.int x16]) (st := []) q4312 mvX12_checkSum t18 rfl dX12_checkE_28 (xle (xal1 (rv_cat _) (xal1 rfl xal0)) (by decide)) (xfr g19) (xlo xsw0 (by decide) g20) (xKr hq (fun x22 h21 hq e23 => ?_) (fun _ _ q _ => q))
    replace hq := hq e23
    refine x_astore_n (lv' := [(3, rv x22), (2, rv x7), (0, rv x0), (1, .int x1)]) dX12_checkE_31 (by decide) (by first | rfl | (simp [rv_cat, Value.category]; done) | (simp [rv_cat, Value.category]; decide)) ?_
    refine x_aload_n 2 dX12_checkE_32 rfl ?_
    refine x_aload_n 1 dX12_checkE_33 rfl ?_
    refine x_aload_n 0 dX12_checkE_34 rfl ?_
    refine x_aload_n 2 dX12_checkE_35 rfl ?_
    have t24 : tg h21 x0 = 13 := e23.tg t18 (by decide)
    refine x_get (v := rv (fR h21 x0 3082)) fdX12_26 dX12_checkE_36 t24 rfl ?_
    refine x_aload_n 2 dX12_checkE_39 rfl ?_
    refine x_get (v := rv (fR h21 x0 3106)) fdX12_82 dX12_checkE_40 t24 rfl ?_
    refine x_iload_n 3 dX12_checkE_43 rfl ?_
    obtain ⟨g25, hq⟩ := hq
    obtain ⟨i26, hq⟩ := hq
    refine x_iald 0 (Or.inl rfl) g25 i26 dX12_checkE_44 ?_
    obtain ⟨g27, hq⟩ := hq
    obtain ⟨i28, hq⟩ := hq
    refine x_iald 0 (Or.inl rfl) g27 i28 dX12_checkE_45 ?_
    obtain ⟨g29, g30, hq⟩ := hq
    refine x_callV (Yc := YX12_areRelated) (as := [rv x7, rv x22, .int (aI h21 (fR h21 x0 3082) (Int32.toNatClampNeg (aI h21 (fR h21 x0 3106) (Int32.toNatClampNeg x1))))]) (st := []) q4405 mvX12_areRelated t24 rfl dX12_checkE_46 (xle (xal1 (rv_cat _) (xal1 (rv_cat _) (xal1 (rv_cat _) (xal1 rfl xal0)))) (by decide)) (xfr g29) (xlo xsw0 (by decide) g30) (xKi hq (fun x32 h31 hq e33 => ?_) (fun _ _ q _ => q))
    replace hq := hq e33
    refine x_if_ne (tgt := 64) dX12_checkE_49 (by decide) (fun c34 => ?_) (fun c34 => ?_)
    · replace hq := hq.1 c34
      refine xP.pick (lv' := [(0, rv x0), (1, .int x1)]) [2, 3] rfl ?_
      exact uX12_checkE_64 hq
    · replace hq := hq.2 c34
      refine x_aload_n 2 dX12_checkE_52 rfl ?_
      refine x_bipush (v := 7) dX12_checkE_53 (by decide) ?_
      refine x_aload_n 2 dX12_checkE_55 rfl ?_
      have t35 : tg h31 x0 = 13 := e33.tg t24 (by decide)
      refine x_get (v := rv (fR h31 x0 3106)) fdX12_82 dX12_checkE_56 t35 rfl ?_
      refine x_iload_n 3 dX12_checkE_59 rfl ?_
      obtain ⟨g36, hq⟩ := hq
      obtain ⟨i37, hq⟩ := hq
      refine x_iald 0 (Or.inl rfl) g36 i37 dX12_checkE_60 ?_
      obtain ⟨g38, g39, hq⟩ := hq
      refine x_callV (Yc := YX12_refuse) (as := [.int 7, .int (aI h31 (fR h31 x0 3106) (Int32.toNatClampNeg x1))]) (st := []) q4095 mvX12_refuse t35 rfl dX12_checkE_61 (xle (xal1 (rv_cat _) (xal1 rfl (xal1 rfl xal0))) (by decide)) (xfr g38) (xlo xsw0 (by decide) g39) (xKv hq (fun h40 hq e42 => ?_) (fun _ _ q _ => q))
      replace hq := hq e42
      refine xP.pick (lv' := [(0, rv x0), (1, .int x1)]) [2, 3] rfl ?_
      exact uX12_checkE_64 hq
theorem rX12_checkE {G : xG} {fr lo : Nat} {x0 : Nat} {x1 : Int32} {h : xH} {Q : Outcome → xH → Prop} (hq : bX12_checkE G fr lo x0 x1 h Q) : xR G YX12_checkE fr lo [rv x0, .int x1] h Q := by
  show xP _ _ _ _ _ (lv_args 0 _) _ _ _
  rw [show lv_args 0 [rv x0, .int x1] = [(0, rv x0), (1, .int x1)] from (xla1 (rv_cat _) (xla1 rfl xla0))]
  exact uX12_checkE hq
set_option maxRecDepth 100000 in
theorem dX12_checkSum_0 : decode cX12_checkSum 0 = .ok (.aload_n 0, 1) := by decide +kernel
set_option maxRecDepth 100000 in
theorem dX12_checkSum_1 : decode cX12_checkSum 1 = .ok (.getfield 73, 3) := by decide +kernel
set_option maxRecDepth 100000 in
theorem dX12_checkSum_4 : decode cX12_checkSum 4 = .ok (.iload_n 1, 1) := by decide +kernel
set_option maxRecDepth 100000 in
theorem dX12_checkSum_5 : decode cX12_checkSum 5 = .ok (.iaload, 1) := by decide +kernel
set_option maxRecDepth 100000 in
theorem dX12_checkSum_6 : decode cX12_checkSum 6 = .ok (.istore_n 2, 1) := by decide +kernel
set_option maxRecDepth 100000 in
theorem dX12_checkSum_7 : decode cX12_checkSum 7 = .ok (.aload_n 0, 1) := by decide +kernel
set_option maxRecDepth 100000 in
theorem dX12_checkSum_8 : decode cX12_checkSum 8 = .ok (.iload_n 2, 1) := by decide +kernel
set_option maxRecDepth 100000 in
theorem dX12_checkSum_9 : decode cX12_checkSum 9 = .ok (.invokevirtual 1066, 3) := by decide +kernel
set_option maxRecDepth 100000 in
theorem dX12_checkSum_12 : decode cX12_checkSum 12 = .ok (.astore_n 3, 1) := by decide +kernel
set_option maxRecDepth 100000 in
theorem dX12_checkSum_13 : decode cX12_checkSum 13 = .ok (.aload_n 0, 1) := by decide +kernel
set_option maxRecDepth 100000 in
theorem dX12_checkSum_14 : decode cX12_checkSum 14 = .ok (.getfield 82, 3) := by decide +kernel
set_option maxRecDepth 100000 in
theorem dX12_checkSum_17 : decode cX12_checkSum 17 = .ok (.iload_n 1, 1) := by decide +kernel
set_option maxRecDepth 100000 in
theorem dX12_checkSum_18 : decode cX12_checkSum 18 = .ok (.iaload, 1) := by decide +kernel
set_option maxRecDepth 100000 in
theorem dX12_checkSum_19 : decode cX12_checkSum 19 = .ok (.iconst (-1), 1) := by decide +kernel
set_option maxRecDepth 100000 in
theorem dX12_checkSum_20 : decode cX12_checkSum 20 = .ok (.if_icmp .eq 22, 3) := by decide +kernel
set_option maxRecDepth 100000 in
theorem dX12_checkSum_23 : decode cX12_checkSum 23 = .ok (.aload_n 3, 1) := by decide +kernel
set_option maxRecDepth 100000 in
theorem dX12_checkSum_24 : decode cX12_checkSum 24 = .ok (.invokevirtual 842, 3) := by decide +kernel
set_option maxRecDepth 100000 in
theorem dX12_checkSum_27 : decode cX12_checkSum 27 = .ok (.ifCond .ne 15, 3) := by decide +kernel
set_option maxRecDepth 100000 in
theorem dX12_checkSum_30 : decode cX12_checkSum 30 = .ok (.aload_n 0, 1) := by decide +kernel
set_option maxRecDepth 100000 in
theorem dX12_checkSum_31 : decode cX12_checkSum 31 = .ok (.bipush 7, 2) := by decide +kernel
set_option maxRecDepth 100000 in
theorem dX12_checkSum_33 : decode cX12_checkSum 33 = .ok (.aload_n 0, 1) := by decide +kernel
set_option maxRecDepth 100000 in
theorem dX12_checkSum_34 : decode cX12_checkSum 34 = .ok (.getfield 82, 3) := by decide +kernel
set_option maxRecDepth 100000 in
theorem dX12_checkSum_37 : decode cX12_checkSum 37 = .ok (.iload_n 1, 1) := by decide +kernel
set_option maxRecDepth 100000 in
theorem dX12_checkSum_38 : decode cX12_checkSum 38 = .ok (.iaload, 1) := by decide +kernel
set_option maxRecDepth 100000 in
theorem dX12_checkSum_39 : decode cX12_checkSum 39 = .ok (.invokevirtual 570, 3) := by decide +kernel
set_option maxRecDepth 100000 in
theorem dX12_checkSum_42 : decode cX12_checkSum 42 = .ok (.aload_n 0, 1) := by decide +kernel
set_option maxRecDepth 100000 in
theorem dX12_checkSum_43 : decode cX12_checkSum 43 = .ok (.getfield 79, 3) := by decide +kernel
set_option maxRecDepth 100000 in
theorem dX12_checkSum_46 : decode cX12_checkSum 46 = .ok (.iload_n 2, 1) := by decide +kernel
set_option maxRecDepth 100000 in
theorem dX12_checkSum_47 : decode cX12_checkSum 47 = .ok (.iaload, 1) := by decide +kernel
set_option maxRecDepth 100000 in
theorem dX12_checkSum_48 : decode cX12_checkSum 48 = .ok (.istore_n 2, 1) := by decide +kernel
set_option maxRecDepth 100000 in
theorem dX12_checkSum_49 : decode cX12_checkSum 49 = .ok (.iload_n 2, 1) := by decide +kernel
set_option maxRecDepth 100000 in
theorem dX12_checkSum_50 : decode cX12_checkSum 50 = .ok (.iconst (-1), 1) := by decide +kernel
set_option maxRecDepth 100000 in
theorem dX12_checkSum_51 : decode cX12_checkSum 51 = .ok (.if_icmp .eq 30, 3) := by decide +kernel
set_option maxRecDepth 100000 in
theorem dX12_checkSum_54 : decode cX12_checkSum 54 = .ok (.aload_n 0, 1) := by decide +kernel
set_option maxRecDepth 100000 in
theorem dX12_checkSum_55 : decode cX12_checkSum 55 = .ok (.aload_n 3, 1) := by decide +kernel
set_option maxRecDepth 100000 in
theorem dX12_checkSum_56 : decode cX12_checkSum 56 = .ok (.aload_n 0, 1) := by decide +kernel
set_option maxRecDepth 100000 in
theorem dX12_checkSum_57 : decode cX12_checkSum 57 = .ok (.iload_n 2, 1) := by decide +kernel
set_option maxRecDepth 100000 in
theorem dX12_checkSum_58 : decode cX12_checkSum 58 = .ok (.invokevirtual 1066, 3) := by decide +kernel
set_option maxRecDepth 100000 in
theorem dX12_checkSum_61 : decode cX12_checkSum 61 = .ok (.aload_n 0, 1) := by decide +kernel
set_option maxRecDepth 100000 in
theorem dX12_checkSum_62 : decode cX12_checkSum 62 = .ok (.getfield 88, 3) := by decide +kernel
set_option maxRecDepth 100000 in
theorem dX12_checkSum_65 : decode cX12_checkSum 65 = .ok (.iload_n 2, 1) := by decide +kernel
set_option maxRecDepth 100000 in
theorem dX12_checkSum_66 : decode cX12_checkSum 66 = .ok (.iaload, 1) := by decide +kernel
set_option maxRecDepth 100000 in
theorem dX12_checkSum_67 : decode cX12_checkSum 67 = .ok (.invokevirtual 1069, 3) := by decide +kernel
set_option maxRecDepth 100000 in
theorem dX12_checkSum_70 : decode cX12_checkSum 70 = .ok (.astore_n 3, 1) := by decide +kernel
set_option maxRecDepth 100000 in
theorem dX12_checkSum_71 : decode cX12_checkSum 71 = .ok (.aload_n 0, 1) := by decide +kernel
set_option maxRecDepth 100000 in
theorem dX12_checkSum_72 : decode cX12_checkSum 72 = .ok (.getfield 79, 3) := by decide +kernel
set_option maxRecDepth 100000 in
theorem dX12_checkSum_75 : decode cX12_checkSum 75 = .ok (.iload_n 2, 1) := by decide +kernel
set_option maxRecDepth 100000 in
theorem dX12_checkSum_76 : decode cX12_checkSum 76 = .ok (.iaload, 1) := by decide +kernel
set_option maxRecDepth 100000 in
theorem dX12_checkSum_77 : decode cX12_checkSum 77 = .ok (.istore_n 2, 1) := by decide +kernel
set_option maxRecDepth 100000 in
theorem dX12_checkSum_78 : decode cX12_checkSum 78 = .ok (.goto (-29), 3) := by decide +kernel
set_option maxRecDepth 100000 in
theorem dX12_checkSum_81 : decode cX12_checkSum 81 = .ok (.aload_n 0, 1) := by decide +kernel
set_option maxRecDepth 100000 in
theorem dX12_checkSum_82 : decode cX12_checkSum 82 = .ok (.getfield 96, 3) := by decide +kernel
set_option maxRecDepth 100000 in
theorem dX12_checkSum_85 : decode cX12_checkSum 85 = .ok (.iload_n 1, 1) := by decide +kernel
set_option maxRecDepth 100000 in
theorem dX12_checkSum_86 : decode cX12_checkSum 86 = .ok (.aload_n 3, 1) := by decide +kernel
set_option maxRecDepth 100000 in
theorem dX12_checkSum_87 : decode cX12_checkSum 87 = .ok (.aastore, 1) := by decide +kernel
set_option maxRecDepth 100000 in
theorem dX12_checkSum_88 : decode cX12_checkSum 88 = .ok (.aload_n 3, 1) := by decide +kernel
set_option maxRecDepth 100000 in
theorem dX12_checkSum_89 : decode cX12_checkSum 89 = .ok (.areturn, 1) := by decide +kernel
def lX12_checkSum_49 (G : xG) (fr lo : Nat) (x0 : Nat) (x1 : Int32) (x2 : Int32) (x3 : Nat) (h : xH) (Q : Outcome → xH → Prop) : Prop := xP G YX12_checkSum fr lo 49 [(0, rv x0), (1, .int x1), (2, .int x2), (3, rv x3)] [] h Q
set_option maxRecDepth 100000 in
def bX12_checkSum_49 (G : xG) (fr lo : Nat) (x0 : Nat) (x1 : Int32) (x2 : Int32) (x3 : Nat) (h : xH) (Q : Outcome → xH → Prop) : Prop := ((x2 = (-1) → tg h x0 = 13 ∧ tg h (fR h x0 3113) = 108 ∧ tg h x3 = 14 ∧ vp_in x1 (ln h (fR h x0 3113)) ∧ (∀ h6 : xH, h6 = tR h (fR h x0 3113) (Int32.toNatClampNeg x1) x3 → Q (.returned (some (rv x3))) h6)) ∧ (¬ x2 = (-1) → tg h x0 = 13 ∧ 1 ≤ fr ∧ 17 ≤ lo ∧ xRr G YX12_checkTerm (fr - 1) (lo - 17) [rv x0, .int x2] h (fun x12 h11 => xext h h11 → tg h11 (fR h11 x0 3108) = 100 ∧ vp_in x2 (ln h11 (fR h11 x0 3108)) ∧ 1 ≤ fr ∧ 17 ≤ lo ∧ xRr G YX12_joined (fr - 1) (lo - 17) [rv x0, rv x3, rv x12, .int (aI h11 (fR h11 x0 3108) (Int32.toNatClampNeg x2))] h11 (fun x20 h19 => xext h11 h19 → tg h19 (fR h19 x0 3105) = 100 ∧ vp_in x2 (ln h19 (fR h19 x0 3105)) ∧ lX12_checkSum_49 G fr lo x0 x1 (aI h19 (fR h19 x0 3105) (Int32.toNatClampNeg x2)) x20 h19 Q) (fun r h2 => Q (.threw r) h2)) (fun r h2 => Q (.threw r) h2)))
set_option maxRecDepth 100000 in
theorem uX12_checkSum_49 {G : xG} {fr lo : Nat} {x0 : Nat} {x1 : Int32} {x2 : Int32} {x3 : Nat} {h : xH} {Q : Outcome → xH → Prop} (hq : bX12_checkSum_49 G fr lo x0 x1 x2 x3 h Q) : xP G YX12_checkSum fr lo 49 [(0, rv x0), (1, .int x1), (2, .int x2), (3, rv x3)] [] h Q := by
  unfold bX12_checkSum_49 at hq
  refine x_iload_n 2 dX12_checkSum_49 rfl ?_
  refine x_iconst (v := (-1)) dX12_checkSum_50 (by decide) ?_
  refine x_icmp_eq (tgt := 81) dX12_checkSum_51 (by decide) (fun c1 => ?_) (fun c1 => ?_)
  · replace hq := hq.1 c1
    refine x_aload_n 0 dX12_checkSum_81 rfl ?_
    obtain ⟨g2, hq⟩ := hq
    refine x_get (v := rv (fR h x0 3113)) fdX12_96 dX12_checkSum_82 g2 rfl ?_
    refine x_iload_n 1 dX12_checkSum_85 rfl ?_
    refine x_aload_n 3 dX12_checkSum_86 rfl ?_
    obtain ⟨g3, hq⟩ := hq
    obtain ⟨g4, hq⟩ := hq
    obtain ⟨i5, hq⟩ := hq
    obtain ⟨h6, e7⟩ : ∃ y, y = tR h (fR h x0 3113) (Int32.toNatClampNeg x1) x3 := ⟨_, rfl⟩
    replace hq := hq h6 e7
    refine x_aast 8 13 as_8_13 g3 (Or.inl (by rw [g3]; rfl)) g4 i5 dX12_checkSum_87 e7 ?_
    refine x_aload_n 3 dX12_checkSum_88 rfl ?_
    exact x_aret rfl xty_O dX12_checkSum_89 hq
  · replace hq := hq.2 c1
    refine x_aload_n 0 dX12_checkSum_54 rfl ?_
    refine x_aload_n 3 dX12_checkSum_55 rfl ?_
    refine x_aload_n 0 dX12_checkSum_56 rfl ?_
    refine x_iload_n 2 dX12_checkSum_57 rfl ?_
    obtain ⟨g8, hq⟩ := hq
    obtain ⟨g9, g10, hq⟩ := hq
    refine x_callV (Yc := YX12_checkTerm) (as := [.int x2]) (st := [rv x3, rv x0]) q4316 mvX12_checkTerm g8 rfl dX12_checkSum_58 (xle (xal1 (rv_cat _) (xal1 rfl xal0)) (by decide)) (xfr g9) (xlo (xsw1 (rv_cat _) (xsw1 (rv_cat _) xsw0)) (by decide) g10) (xKr hq (fun x12 h11 hq e13 => ?_) (fun _ _ q _ => q))
    replace hq := hq e13
    refine x_aload_n 0 dX12_checkSum_61 rfl ?_
    have t14 : tg h11 x0 = 13 := e13.tg g8 (by decide)
    refine x_get (v := rv (fR h11 x0 3108)) fdX12_88 dX12_checkSum_62 t14 rfl ?_
    refine x_iload_n 2 dX12_checkSum_65 rfl ?_
    obtain ⟨g15, hq⟩ := hq
    obtain ⟨i16, hq⟩ := hq
    refine x_iald 0 (Or.inl rfl) g15 i16 dX12_checkSum_66 ?_
    obtain ⟨g17, g18, hq⟩ := hq
    refine x_callV (Yc := YX12_joined) (as := [rv x3, rv x12, .int (aI h11 (fR h11 x0 3108) (Int32.toNatClampNeg x2))]) (st := []) q4401 mvX12_joined t14 rfl dX12_checkSum_67 (xle (xal1 (rv_cat _) (xal1 (rv_cat _) (xal1 (rv_cat _) (xal1 rfl xal0)))) (by decide)) (xfr g17) (xlo xsw0 (by decide) g18) (xKr hq (fun x20 h19 hq e21 => ?_) (fun _ _ q _ => q))
    replace hq := hq e21
    refine x_astore_n (lv' := [(3, rv x20), (0, rv x0), (1, .int x1), (2, .int x2)]) dX12_checkSum_70 (by decide) rfl ?_
    refine x_aload_n 1 dX12_checkSum_71 rfl ?_
    have t22 : tg h19 x0 = 13 := e21.tg t14 (by decide)
    refine x_get (v := rv (fR h19 x0 3105)) fdX12_79 dX12_checkSum_72 t22 rfl ?_
    refine x_iload_n 3 dX12_checkSum_75 rfl ?_
    obtain ⟨g23, hq⟩ := hq
    obtain ⟨i24, hq⟩ := hq
    refine x_iald 0 (Or.inl rfl) g23 i24 dX12_checkSum_76 ?_
    refine x_istore_n (lv' := [(2, .int (aI h19 (fR h19 x0 3105) (Int32.toNatClampNeg x2))), (3, rv x20), (0, rv x0), (1, .int x1)]) dX12_checkSum_77 (by decide) rfl ?_
    refine x_goto (tgt := 49) dX12_checkSum_78 (by decide) ?_
    refine xP.pick (lv' := [(0, rv x0), (1, .int x1), (2, .int (aI h19 (fR h19 x0 3105) (Int32.toNatClampNeg x2))), (3, rv x20)]) [2, 3, 0, 1] rfl ?_
    exact hq
set_option maxRecDepth 100000 in
def bX12_checkSum_42 (G : xG) (fr lo : Nat) (x0 : Nat) (x1 : Int32) (x2 : Int32) (x3 : Nat) (h : xH) (Q : Outcome → xH → Prop) : Prop := tg h x0 = 13 ∧ tg h (fR h x0 3105) = 100 ∧ vp_in x2 (ln h (fR h x0 3105)) ∧ lX12_checkSum_49 G fr lo x0 x1 (aI h (fR h x0 3105) (Int32.toNatClampNeg x2)) x3 h Q
set_option maxRecDepth 100000 in
theorem uX12_checkSum_42 {G : xG} {fr lo : Nat} {x0 : Nat} {x1 : Int32} {x2 : Int32} {x3 : Nat} {h : xH} {Q : Outcome → xH → Prop} (hq : bX12_checkSum_42 G fr lo x0 x1 x2 x3 h Q) : xP G YX12_checkSum fr lo 42 [(0, rv x0), (1, .int x1), (2, .int x2), (3, rv x3)] [] h Q := by
  unfold bX12_checkSum_42 at hq
  refine x_aload_n 0 dX12_checkSum_42 rfl ?_
  obtain ⟨g1, hq⟩ := hq
  refine x_get (v := rv (fR h x0 3105)) fdX12_79 dX12_checkSum_43 g1 rfl ?_
  refine x_iload_n 2 dX12_checkSum_46 rfl ?_
  obtain ⟨g2, hq⟩ := hq
  obtain ⟨i3, hq⟩ := hq
  refine x_iald 0 (Or.inl rfl) g2 i3 dX12_checkSum_47 ?_
  refine x_istore_n (lv' := [(2, .int (aI h (fR h x0 3105) (Int32.toNatClampNeg x2))), (0, rv x0), (1, .int x1), (3, rv x3)]) dX12_checkSum_48 (by decide) rfl ?_
  refine xP.pick (lv' := [(0, rv x0), (1, .int x1), (2, .int (aI h (fR h x0 3105) (Int32.toNatClampNeg x2))), (3, rv x3)]) [1, 2, 0, 3] rfl ?_
  exact hq
set_option maxRecDepth 100000 in
def bX12_checkSum (G : xG) (fr lo : Nat) (x0 : Nat) (x1 : Int32) (h : xH) (Q : Outcome → xH → Prop) : Prop := tg h x0 = 13 ∧ tg h (fR h x0 3103) = 100 ∧ vp_in x1 (ln h (fR h x0 3103)) ∧ 1 ≤ fr ∧ 15 ≤ lo ∧ xRr G YX12_checkTerm (fr - 1) (lo - 15) [rv x0, .int (aI h (fR h x0 3103) (Int32.toNatClampNeg x1))] h (fun x7 h6 => xext h h6 → tg h6 (fR h6 x0 3106) = 100 ∧ vp_in x1 (ln h6 (fR h6 x0 3106)) ∧ (((aI h6 (fR h6 x0 3106) (Int32.toNatClampNeg x1)) = (-1) → bX12_checkSum_42 G fr lo x0 x1 (aI h (fR h x0 3103) (Int32.toNatClampNeg x1)) x7 h6 Q) ∧ (¬ (aI h6 (fR h6 x0 3106) (Int32.toNatClampNeg x1)) = (-1) → tg h6 x7 = 14 ∧ 1 ≤ fr ∧ 12 ≤ lo ∧ xRi G YX13_isNumber (fr - 1) (lo - 12) [rv x7] h6 (fun x17 h16 => xext h6 h16 → ((¬ x17 = 0 → bX12_checkSum_42 G fr lo x0 x1 (aI h (fR h x0 3103) (Int32.toNatClampNeg x1)) x7 h16 Q) ∧ (x17 = 0 → tg h16 (fR h16 x0 3106) = 100 ∧ vp_in x1 (ln h16 (fR h16 x0 3106)) ∧ 1 ≤ fr ∧ 14 ≤ lo ∧ xRv G YX12_refuse (fr - 1) (lo - 14) [rv x0, .int 7, .int (aI h16 (fR h16 x0 3106) (Int32.toNatClampNeg x1))] h16 (fun h25 => xext h16 h25 → bX12_checkSum_42 G fr lo x0 x1 (aI h (fR h x0 3103) (Int32.toNatClampNeg x1)) x7 h25 Q) (fun r h2 => Q (.threw r) h2)))) (fun r h2 => Q (.threw r) h2)))) (fun r h2 => Q (.threw r) h2)
set_option maxRecDepth 100000 in
theorem uX12_checkSum {G : xG} {fr lo : Nat} {x0 : Nat} {x1 : Int32} {h : xH} {Q : Outcome → xH → Prop} (hq : bX12_checkSum G fr lo x0 x1 h Q) : xP G YX12_checkSum fr lo 0 [(0, rv x0), (1, .int x1)] [] h Q := by
  unfold bX12_checkSum at hq
  refine x_aload_n 0 dX12_checkSum_0 rfl ?_
  obtain ⟨g1, hq⟩ := hq
  refine x_get (v := rv (fR h x0 3103)) fdX12_73 dX12_checkSum_1 g1 rfl ?_
  refine x_iload_n 1 dX12_checkSum_4 rfl ?_
  obtain ⟨g2, hq⟩ := hq
  obtain ⟨i3, hq⟩ := hq
  refine x_iald 0 (Or.inl rfl) g2 i3 dX12_checkSum_5 ?_
  refine x_istore_n (lv' := [(2, .int (aI h (fR h x0 3103) (Int32.toNatClampNeg x1))), (0, rv x0), (1, .int x1)]) dX12_checkSum_6 (by decide) rfl ?_
  refine x_aload_n 1 dX12_checkSum_7 rfl ?_
  refine x_iload_n 0 dX12_checkSum_8 rfl ?_
  obtain ⟨g4, g5, hq⟩ := hq
  refine x_callV (Yc := YX12_checkTerm) (as := [.int (aI h (fR h x0 3103) (Int32.toNatClampNeg x1))]) (st := []) q4316 mvX12_checkTerm g1 rfl dX12_checkSum_9 (xle (xal1 (rv_cat _) (xal1 rfl xal0)) (by decide)) (xfr g4) (xlo xsw0 (by decide) g5) (xKr hq (fun x7 h6 hq e8 => ?_) (fun _ _ q _ => q))
  replace hq := hq e8
  refine x_astore_n (lv' := [(3, rv x7), (2, .int (aI h (fR h x0 3103) (Int32.toNatClampNeg x1))), (0, rv x0), (1, .int x1)]) dX12_checkSum_12 (by decide) rfl ?_
  refine x_aload_n 2 dX12_checkSum_13 rfl ?_
  have t9 : tg h6 x0 = 13 := e8.tg g1 (by decide)
  refine x_get (v := rv (fR h6 x0 3106)) fdX12_82 dX12_checkSum_14 t9 rfl ?_
  refine x_iload_n 3 dX12_checkSum_17 rfl ?_
  obtain ⟨g10, hq⟩ := hq
  obtain ⟨i11, hq⟩ := hq
  refine x_iald 0 (Or.inl rfl) g10 i11 dX12_checkSum_18 ?_
  refine x_iconst (v := (-1)) dX12_checkSum_19 (by decide) ?_
  refine x_icmp_eq (tgt := 42) dX12_checkSum_20 (by decide) (fun c12 => ?_) (fun c12 => ?_)
  · replace hq := hq.1 c12
    refine xP.pick (lv' := [(0, rv x0), (1, .int x1), (2, .int (aI h (fR h x0 3103) (Int32.toNatClampNeg x1))), (3, rv x7)]) [2, 3, 1, 0] rfl ?_
    exact uX12_checkSum_42 hq
  · replace hq := hq.2 c12
    refine x_aload_n 0 dX12_checkSum_23 rfl ?_
    obtain ⟨g13, hq⟩ := hq
    obtain ⟨g14, g15, hq⟩ := hq
    refine x_callV (Yc := YX13_isNumber) (as := []) (st := []) q4165 mvX13_isNumber g13 rfl dX12_checkSum_24 (xle (xal1 (rv_cat _) xal0) (by decide)) (xfr g14) (xlo xsw0 (by decide) g15) (xKi hq (fun x17 h16 hq e18 => ?_) (fun _ _ q _ => q))
    replace hq := hq e18
    refine x_if_ne (tgt := 42) dX12_checkSum_27 (by decide) (fun c19 => ?_) (fun c19 => ?_)
    · replace hq := hq.1 c19
      refine xP.pick (lv' := [(0, rv x0), (1, .int x1), (2, .int (aI h (fR h x0 3103) (Int32.toNatClampNeg x1))), (3, rv x7)]) [2, 3, 1, 0] rfl ?_
      exact uX12_checkSum_42 hq
    · replace hq := hq.2 c19
      refine x_aload_n 2 dX12_checkSum_30 rfl ?_
      refine x_bipush (v := 7) dX12_checkSum_31 (by decide) ?_
      refine x_aload_n 2 dX12_checkSum_33 rfl ?_
      have t20 : tg h16 x0 = 13 := e18.tg t9 (by decide)
      refine x_get (v := rv (fR h16 x0 3106)) fdX12_82 dX12_checkSum_34 t20 rfl ?_
      refine x_iload_n 3 dX12_checkSum_37 rfl ?_
      obtain ⟨g21, hq⟩ := hq
      obtain ⟨i22, hq⟩ := hq
      refine x_iald 0 (Or.inl rfl) g21 i22 dX12_checkSum_38 ?_
      obtain ⟨g23, g24, hq⟩ := hq
      refine x_callV (Yc := YX12_refuse) (as := [.int 7, .int (aI h16 (fR h16 x0 3106) (Int32.toNatClampNeg x1))]) (st := []) q4095 mvX12_refuse t20 rfl dX12_checkSum_39 (xle (xal1 (rv_cat _) (xal1 rfl (xal1 rfl xal0))) (by decide)) (xfr g23) (xlo xsw0 (by decide) g24) (xKv hq (fun h25 hq e27 => ?_) (fun _ _ q _ => q))
      replace hq := hq e27
      refine xP.pick (lv' := [(0, rv x0), (1, .int x1), (2, .int (aI h (fR h x0 3103) (Int32.toNatClampNeg x1))), (3, rv x7)]) [2, 3, 1, 0] rfl ?_
      exact uX12_checkSum_42 hq
theorem rX12_checkSum {G : xG} {fr lo : Nat} {x0 : Nat} {x1 : Int32} {h : xH} {Q : Outcome → xH → Prop} (hq : bX12_checkSum G fr lo x0 x1 h Q) : xR G YX12_checkSum fr lo [rv x0, .int x1] h Q := by
  show xP _ _ _ _ _ (lv_args 0 _) _ _ _
  rw [show lv_args 0 [rv x0, .int x1] = [(0, rv x0), (1, .int x1)] from (xla1 (rv_cat _) (xla1 rfl xla0))]
  exact uX12_checkSum hq
set_option maxRecDepth 100000 in
theorem dX12_checkTerm_0 : decode cX12_checkTerm 0 = .ok (.aload_n 0, 1) := by decide +kernel
set_option maxRecDepth 100000 in
theorem dX12_checkTerm_1 : decode cX12_checkTerm 1 = .ok (.getfield 73, 3) := by decide +kernel
set_option maxRecDepth 100000 in
theorem dX12_checkTerm_4 : decode cX12_checkTerm 4 = .ok (.iload_n 1, 1) := by decide +kernel
set_option maxRecDepth 100000 in
theorem dX12_checkTerm_5 : decode cX12_checkTerm 5 = .ok (.iaload, 1) := by decide +kernel
set_option maxRecDepth 100000 in
theorem dX12_checkTerm_6 : decode cX12_checkTerm 6 = .ok (.istore_n 2, 1) := by decide +kernel
set_option maxRecDepth 100000 in
theorem dX12_checkTerm_7 : decode cX12_checkTerm 7 = .ok (.aload_n 0, 1) := by decide +kernel
set_option maxRecDepth 100000 in
theorem dX12_checkTerm_8 : decode cX12_checkTerm 8 = .ok (.iload_n 2, 1) := by decide +kernel
set_option maxRecDepth 100000 in
theorem dX12_checkTerm_9 : decode cX12_checkTerm 9 = .ok (.invokevirtual 1073, 3) := by decide +kernel
set_option maxRecDepth 100000 in
theorem dX12_checkTerm_12 : decode cX12_checkTerm 12 = .ok (.astore_n 3, 1) := by decide +kernel
set_option maxRecDepth 100000 in
theorem dX12_checkTerm_13 : decode cX12_checkTerm 13 = .ok (.aload_n 0, 1) := by decide +kernel
set_option maxRecDepth 100000 in
theorem dX12_checkTerm_14 : decode cX12_checkTerm 14 = .ok (.getfield 79, 3) := by decide +kernel
set_option maxRecDepth 100000 in
theorem dX12_checkTerm_17 : decode cX12_checkTerm 17 = .ok (.iload_n 2, 1) := by decide +kernel
set_option maxRecDepth 100000 in
theorem dX12_checkTerm_18 : decode cX12_checkTerm 18 = .ok (.iaload, 1) := by decide +kernel
set_option maxRecDepth 100000 in
theorem dX12_checkTerm_19 : decode cX12_checkTerm 19 = .ok (.istore_n 2, 1) := by decide +kernel
set_option maxRecDepth 100000 in
theorem dX12_checkTerm_20 : decode cX12_checkTerm 20 = .ok (.iload_n 2, 1) := by decide +kernel
set_option maxRecDepth 100000 in
theorem dX12_checkTerm_21 : decode cX12_checkTerm 21 = .ok (.iconst (-1), 1) := by decide +kernel
set_option maxRecDepth 100000 in
theorem dX12_checkTerm_22 : decode cX12_checkTerm 22 = .ok (.if_icmp .eq 30, 3) := by decide +kernel
set_option maxRecDepth 100000 in
theorem dX12_checkTerm_25 : decode cX12_checkTerm 25 = .ok (.aload_n 0, 1) := by decide +kernel
set_option maxRecDepth 100000 in
theorem dX12_checkTerm_26 : decode cX12_checkTerm 26 = .ok (.aload_n 3, 1) := by decide +kernel
set_option maxRecDepth 100000 in
theorem dX12_checkTerm_27 : decode cX12_checkTerm 27 = .ok (.aload_n 0, 1) := by decide +kernel
set_option maxRecDepth 100000 in
theorem dX12_checkTerm_28 : decode cX12_checkTerm 28 = .ok (.iload_n 2, 1) := by decide +kernel
set_option maxRecDepth 100000 in
theorem dX12_checkTerm_29 : decode cX12_checkTerm 29 = .ok (.invokevirtual 1073, 3) := by decide +kernel
set_option maxRecDepth 100000 in
theorem dX12_checkTerm_32 : decode cX12_checkTerm 32 = .ok (.aload_n 0, 1) := by decide +kernel
set_option maxRecDepth 100000 in
theorem dX12_checkTerm_33 : decode cX12_checkTerm 33 = .ok (.getfield 88, 3) := by decide +kernel
set_option maxRecDepth 100000 in
theorem dX12_checkTerm_36 : decode cX12_checkTerm 36 = .ok (.iload_n 2, 1) := by decide +kernel
set_option maxRecDepth 100000 in
theorem dX12_checkTerm_37 : decode cX12_checkTerm 37 = .ok (.iaload, 1) := by decide +kernel
set_option maxRecDepth 100000 in
theorem dX12_checkTerm_38 : decode cX12_checkTerm 38 = .ok (.invokevirtual 1069, 3) := by decide +kernel
set_option maxRecDepth 100000 in
theorem dX12_checkTerm_41 : decode cX12_checkTerm 41 = .ok (.astore_n 3, 1) := by decide +kernel
set_option maxRecDepth 100000 in
theorem dX12_checkTerm_42 : decode cX12_checkTerm 42 = .ok (.aload_n 0, 1) := by decide +kernel
set_option maxRecDepth 100000 in
theorem dX12_checkTerm_43 : decode cX12_checkTerm 43 = .ok (.getfield 79, 3) := by decide +kernel
set_option maxRecDepth 100000 in
theorem dX12_checkTerm_46 : decode cX12_checkTerm 46 = .ok (.iload_n 2, 1) := by decide +kernel
set_option maxRecDepth 100000 in
theorem dX12_checkTerm_47 : decode cX12_checkTerm 47 = .ok (.iaload, 1) := by decide +kernel
set_option maxRecDepth 100000 in
theorem dX12_checkTerm_48 : decode cX12_checkTerm 48 = .ok (.istore_n 2, 1) := by decide +kernel
set_option maxRecDepth 100000 in
theorem dX12_checkTerm_49 : decode cX12_checkTerm 49 = .ok (.goto (-29), 3) := by decide +kernel
set_option maxRecDepth 100000 in
theorem dX12_checkTerm_52 : decode cX12_checkTerm 52 = .ok (.aload_n 0, 1) := by decide +kernel
set_option maxRecDepth 100000 in
theorem dX12_checkTerm_53 : decode cX12_checkTerm 53 = .ok (.getfield 96, 3) := by decide +kernel
set_option maxRecDepth 100000 in
theorem dX12_checkTerm_56 : decode cX12_checkTerm 56 = .ok (.iload_n 1, 1) := by decide +kernel
set_option maxRecDepth 100000 in
theorem dX12_checkTerm_57 : decode cX12_checkTerm 57 = .ok (.aload_n 3, 1) := by decide +kernel
set_option maxRecDepth 100000 in
theorem dX12_checkTerm_58 : decode cX12_checkTerm 58 = .ok (.aastore, 1) := by decide +kernel
set_option maxRecDepth 100000 in
theorem dX12_checkTerm_59 : decode cX12_checkTerm 59 = .ok (.aload_n 3, 1) := by decide +kernel
set_option maxRecDepth 100000 in
theorem dX12_checkTerm_60 : decode cX12_checkTerm 60 = .ok (.areturn, 1) := by decide +kernel
def lX12_checkTerm_20 (G : xG) (fr lo : Nat) (x0 : Nat) (x1 : Int32) (x2 : Int32) (x3 : Nat) (h : xH) (Q : Outcome → xH → Prop) : Prop := xP G YX12_checkTerm fr lo 20 [(0, rv x0), (1, .int x1), (2, .int x2), (3, rv x3)] [] h Q
set_option maxRecDepth 100000 in
def bX12_checkTerm_20 (G : xG) (fr lo : Nat) (x0 : Nat) (x1 : Int32) (x2 : Int32) (x3 : Nat) (h : xH) (Q : Outcome → xH → Prop) : Prop := ((x2 = (-1) → tg h x0 = 13 ∧ tg h (fR h x0 3113) = 108 ∧ tg h x3 = 14 ∧ vp_in x1 (ln h (fR h x0 3113)) ∧ (∀ h6 : xH, h6 = tR h (fR h x0 3113) (Int32.toNatClampNeg x1) x3 → Q (.returned (some (rv x3))) h6)) ∧ (¬ x2 = (-1) → tg h x0 = 13 ∧ 1 ≤ fr ∧ 15 ≤ lo ∧ xRr G YX12_checkFactor (fr - 1) (lo - 15) [rv x0, .int x2] h (fun x12 h11 => xext h h11 → tg h11 (fR h11 x0 3108) = 100 ∧ vp_in x2 (ln h11 (fR h11 x0 3108)) ∧ 1 ≤ fr ∧ 17 ≤ lo ∧ xRr G YX12_joined (fr - 1) (lo - 17) [rv x0, rv x3, rv x12, .int (aI h11 (fR h11 x0 3108) (Int32.toNatClampNeg x2))] h11 (fun x20 h19 => xext h11 h19 → tg h19 (fR h19 x0 3105) = 100 ∧ vp_in x2 (ln h19 (fR h19 x0 3105)) ∧ lX12_checkTerm_20 G fr lo x0 x1 (aI h19 (fR h19 x0 3105) (Int32.toNatClampNeg x2)) x20 h19 Q) (fun r h2 => Q (.threw r) h2)) (fun r h2 => Q (.threw r) h2)))
set_option maxRecDepth 100000 in
theorem uX12_checkTerm_20 {G : xG} {fr lo : Nat} {x0 : Nat} {x1 : Int32} {x2 : Int32} {x3 : Nat} {h : xH} {Q : Outcome → xH → Prop} (hq : bX12_checkTerm_20 G fr lo x0 x1 x2 x3 h Q) : xP G YX12_checkTerm fr lo 20 [(0, rv x0), (1, .int x1), (2, .int x2), (3, rv x3)] [] h Q := by
  unfold bX12_checkTerm_20 at hq
  refine x_iload_n 2 dX12_checkTerm_20 rfl ?_
  refine x_iconst (v := (-1)) dX12_checkTerm_21 (by decide) ?_
  refine x_icmp_eq (tgt := 52) dX12_checkTerm_22 (by decide) (fun c1 => ?_) (fun c1 => ?_)
  · replace hq := hq.1 c1
    refine x_aload_n 0 dX12_checkTerm_52 rfl ?_
    obtain ⟨g2, hq⟩ := hq
    refine x_get (v := rv (fR h x0 3113)) fdX12_96 dX12_checkTerm_53 g2 rfl ?_
    refine x_iload_n 1 dX12_checkTerm_56 rfl ?_
    refine x_aload_n 3 dX12_checkTerm_57 rfl ?_
    obtain ⟨g3, hq⟩ := hq
    obtain ⟨g4, hq⟩ := hq
    obtain ⟨i5, hq⟩ := hq
    obtain ⟨h6, e7⟩ : ∃ y, y = tR h (fR h x0 3113) (Int32.toNatClampNeg x1) x3 := ⟨_, rfl⟩
    replace hq := hq h6 e7
    refine x_aast 8 13 as_8_13 g3 (Or.inl (by rw [g3]; rfl)) g4 i5 dX12_checkTerm_58 e7 ?_
    refine x_aload_n 3 dX12_checkTerm_59 rfl ?_
    exact x_aret rfl xty_O dX12_checkTerm_60 hq
  · replace hq := hq.2 c1
    refine x_aload_n 0 dX12_checkTerm_25 rfl ?_
    refine x_aload_n 3 dX12_checkTerm_26 rfl ?_
    refine x_aload_n 0 dX12_checkTerm_27 rfl ?_
    refine x_iload_n 2 dX12_checkTerm_28 rfl ?_
    obtain ⟨g8, hq⟩ := hq
    obtain ⟨g9, g10, hq⟩ := hq
    refine x_callV (Yc := YX12_checkFactor) (as := [.int x2]) (st := [rv x3, rv x0]) q4320 mvX12_checkFactor g8 rfl dX12_checkTerm_29 (xle (xal1 (rv_cat _) (xal1 rfl xal0)) (by decide)) (xfr g9) (xlo (xsw1 (rv_cat _) (xsw1 (rv_cat _) xsw0)) (by decide) g10) (xKr hq (fun x12 h11 hq e13 => ?_) (fun _ _ q _ => q))
    replace hq := hq e13
    refine x_aload_n 0 dX12_checkTerm_32 rfl ?_
    have t14 : tg h11 x0 = 13 := e13.tg g8 (by decide)
    refine x_get (v := rv (fR h11 x0 3108)) fdX12_88 dX12_checkTerm_33 t14 rfl ?_
    refine x_iload_n 2 dX12_checkTerm_36 rfl ?_
    obtain ⟨g15, hq⟩ := hq
    obtain ⟨i16, hq⟩ := hq
    refine x_iald 0 (Or.inl rfl) g15 i16 dX12_checkTerm_37 ?_
    obtain ⟨g17, g18, hq⟩ := hq
    refine x_callV (Yc := YX12_joined) (as := [rv x3, rv x12, .int (aI h11 (fR h11 x0 3108) (Int32.toNatClampNeg x2))]) (st := []) q4401 mvX12_joined t14 rfl dX12_checkTerm_38 (xle (xal1 (rv_cat _) (xal1 (rv_cat _) (xal1 (rv_cat _) (xal1 rfl xal0)))) (by decide)) (xfr g17) (xlo xsw0 (by decide) g18) (xKr hq (fun x20 h19 hq e21 => ?_) (fun _ _ q _ => q))
    replace hq := hq e21
    refine x_astore_n (lv' := [(3, rv x20), (0, rv x0), (1, .int x1), (2, .int x2)]) dX12_checkTerm_41 (by decide) rfl ?_
    refine x_aload_n 1 dX12_checkTerm_42 rfl ?_
    have t22 : tg h19 x0 = 13 := e21.tg t14 (by decide)
    refine x_get (v := rv (fR h19 x0 3105)) fdX12_79 dX12_checkTerm_43 t22 rfl ?_
    refine x_iload_n 3 dX12_checkTerm_46 rfl ?_
    obtain ⟨g23, hq⟩ := hq
    obtain ⟨i24, hq⟩ := hq
    refine x_iald 0 (Or.inl rfl) g23 i24 dX12_checkTerm_47 ?_
    refine x_istore_n (lv' := [(2, .int (aI h19 (fR h19 x0 3105) (Int32.toNatClampNeg x2))), (3, rv x20), (0, rv x0), (1, .int x1)]) dX12_checkTerm_48 (by decide) rfl ?_
    refine x_goto (tgt := 20) dX12_checkTerm_49 (by decide) ?_
    refine xP.pick (lv' := [(0, rv x0), (1, .int x1), (2, .int (aI h19 (fR h19 x0 3105) (Int32.toNatClampNeg x2))), (3, rv x20)]) [2, 3, 0, 1] rfl ?_
    exact hq
set_option maxRecDepth 100000 in
def bX12_checkTerm (G : xG) (fr lo : Nat) (x0 : Nat) (x1 : Int32) (h : xH) (Q : Outcome → xH → Prop) : Prop := tg h x0 = 13 ∧ tg h (fR h x0 3103) = 100 ∧ vp_in x1 (ln h (fR h x0 3103)) ∧ 1 ≤ fr ∧ 13 ≤ lo ∧ xRr G YX12_checkFactor (fr - 1) (lo - 13) [rv x0, .int (aI h (fR h x0 3103) (Int32.toNatClampNeg x1))] h (fun x7 h6 => xext h h6 → tg h6 (fR h6 x0 3105) = 100 ∧ vp_in (aI h (fR h x0 3103) (Int32.toNatClampNeg x1)) (ln h6 (fR h6 x0 3105)) ∧ lX12_checkTerm_20 G fr lo x0 x1 (aI h6 (fR h6 x0 3105) (Int32.toNatClampNeg (aI h (fR h x0 3103) (Int32.toNatClampNeg x1)))) x7 h6 Q) (fun r h2 => Q (.threw r) h2)
set_option maxRecDepth 100000 in
theorem uX12_checkTerm {G : xG} {fr lo : Nat} {x0 : Nat} {x1 : Int32} {h : xH} {Q : Outcome → xH → Prop} (hq : bX12_checkTerm G fr lo x0 x1 h Q) : xP G YX12_checkTerm fr lo 0 [(0, rv x0), (1, .int x1)] [] h Q := by
  unfold bX12_checkTerm at hq
  refine x_aload_n 0 dX12_checkTerm_0 rfl ?_
  obtain ⟨g1, hq⟩ := hq
  refine x_get (v := rv (fR h x0 3103)) fdX12_73 dX12_checkTerm_1 g1 rfl ?_
  refine x_iload_n 1 dX12_checkTerm_4 rfl ?_
  obtain ⟨g2, hq⟩ := hq
  obtain ⟨i3, hq⟩ := hq
  refine x_iald 0 (Or.inl rfl) g2 i3 dX12_checkTerm_5 ?_
  refine x_istore_n (lv' := [(2, .int (aI h (fR h x0 3103) (Int32.toNatClampNeg x1))), (0, rv x0), (1, .int x1)]) dX12_checkTerm_6 (by decide) rfl ?_
  refine x_aload_n 1 dX12_checkTerm_7 rfl ?_
  refine x_iload_n 0 dX12_checkTerm_8 rfl ?_
  obtain ⟨g4, g5, hq⟩ := hq
  refine x_callV (Yc := YX12_checkFactor) (as := [.int (aI h (fR h x0 3103) (Int32.toNatClampNeg x1))]) (st := []) q4320 mvX12_checkFactor g1 rfl dX12_checkTerm_9 (xle (xal1 (rv_cat _) (xal1 rfl xal0)) (by decide)) (xfr g4) (xlo xsw0 (by decide) g5) (xKr hq (fun x7 h6 hq e8 => ?_) (fun _ _ q _ => q))
  replace hq := hq e8
  refine x_astore_n (lv' := [(3, rv x7), (2, .int (aI h (fR h x0 3103) (Int32.toNatClampNeg x1))), (0, rv x0), (1, .int x1)]) dX12_checkTerm_12 (by decide) rfl ?_
  refine x_aload_n 2 dX12_checkTerm_13 rfl ?_
  have t9 : tg h6 x0 = 13 := e8.tg g1 (by decide)
  refine x_get (v := rv (fR h6 x0 3105)) fdX12_79 dX12_checkTerm_14 t9 rfl ?_
  refine x_iload_n 1 dX12_checkTerm_17 rfl ?_
  obtain ⟨g10, hq⟩ := hq
  obtain ⟨i11, hq⟩ := hq
  refine x_iald 0 (Or.inl rfl) g10 i11 dX12_checkTerm_18 ?_
  refine x_istore_n (lv' := [(2, .int (aI h6 (fR h6 x0 3105) (Int32.toNatClampNeg (aI h (fR h x0 3103) (Int32.toNatClampNeg x1))))), (3, rv x7), (0, rv x0), (1, .int x1)]) dX12_checkTerm_19 (by decide) rfl ?_
  refine xP.pick (lv' := [(0, rv x0), (1, .int x1), (2, .int (aI h6 (fR h6 x0 3105) (Int32.toNatClampNeg (aI h (fR h x0 3103) (Int32.toNatClampNeg x1))))), (3, rv x7)]) [2, 3, 0, 1] rfl ?_
  exact hq
theorem rX12_checkTerm {G : xG} {fr lo : Nat} {x0 : Nat} {x1 : Int32} {h : xH} {Q : Outcome → xH → Prop} (hq : bX12_checkTerm G fr lo x0 x1 h Q) : xR G YX12_checkTerm fr lo [rv x0, .int x1] h Q := by
  show xP _ _ _ _ _ (lv_args 0 _) _ _ _
  rw [show lv_args 0 [rv x0, .int x1] = [(0, rv x0), (1, .int x1)] from (xla1 (rv_cat _) (xla1 rfl xla0))]
  exact uX12_checkTerm hq
set_option maxRecDepth 100000 in
theorem dX12_checkFactor_0 : decode cX12_checkFactor 0 = .ok (.aload_n 0, 1) := by decide +kernel
set_option maxRecDepth 100000 in
theorem dX12_checkFactor_1 : decode cX12_checkFactor 1 = .ok (.getfield 96, 3) := by decide +kernel
set_option maxRecDepth 100000 in
theorem dX12_checkFactor_4 : decode cX12_checkFactor 4 = .ok (.iload_n 1, 1) := by decide +kernel
set_option maxRecDepth 100000 in
theorem dX12_checkFactor_5 : decode cX12_checkFactor 5 = .ok (.aload_n 0, 1) := by decide +kernel
set_option maxRecDepth 100000 in
theorem dX12_checkFactor_6 : decode cX12_checkFactor 6 = .ok (.iload_n 1, 1) := by decide +kernel
set_option maxRecDepth 100000 in
theorem dX12_checkFactor_7 : decode cX12_checkFactor 7 = .ok (.invokevirtual 1076, 3) := by decide +kernel
set_option maxRecDepth 100000 in
theorem dX12_checkFactor_10 : decode cX12_checkFactor 10 = .ok (.aastore, 1) := by decide +kernel
set_option maxRecDepth 100000 in
theorem dX12_checkFactor_11 : decode cX12_checkFactor 11 = .ok (.aload_n 0, 1) := by decide +kernel
set_option maxRecDepth 100000 in
theorem dX12_checkFactor_12 : decode cX12_checkFactor 12 = .ok (.getfield 96, 3) := by decide +kernel
set_option maxRecDepth 100000 in
theorem dX12_checkFactor_15 : decode cX12_checkFactor 15 = .ok (.iload_n 1, 1) := by decide +kernel
set_option maxRecDepth 100000 in
theorem dX12_checkFactor_16 : decode cX12_checkFactor 16 = .ok (.aaload, 1) := by decide +kernel
set_option maxRecDepth 100000 in
theorem dX12_checkFactor_17 : decode cX12_checkFactor 17 = .ok (.areturn, 1) := by decide +kernel
set_option maxRecDepth 100000 in
def bX12_checkFactor (G : xG) (fr lo : Nat) (x0 : Nat) (x1 : Int32) (h : xH) (Q : Outcome → xH → Prop) : Prop := tg h x0 = 13 ∧ 1 ≤ fr ∧ 16 ≤ lo ∧ xRr G YX12_factorType (fr - 1) (lo - 16) [rv x0, .int x1] h (fun x5 h4 => xext h h4 → tg h4 (fR h x0 3113) = 108 ∧ tg h4 x5 = 14 ∧ vp_in x1 (ln h4 (fR h x0 3113)) ∧ (∀ h10 : xH, h10 = tR h4 (fR h x0 3113) (Int32.toNatClampNeg x1) x5 → tg h10 (fR h10 x0 3113) = 108 ∧ vp_in x1 (ln h10 (fR h10 x0 3113)) ∧ Q (.returned (some (rv (aR h10 (fR h10 x0 3113) (Int32.toNatClampNeg x1))))) h10)) (fun r h2 => Q (.threw r) h2)
set_option maxRecDepth 100000 in
theorem uX12_checkFactor {G : xG} {fr lo : Nat} {x0 : Nat} {x1 : Int32} {h : xH} {Q : Outcome → xH → Prop} (hq : bX12_checkFactor G fr lo x0 x1 h Q) : xP G YX12_checkFactor fr lo 0 [(0, rv x0), (1, .int x1)] [] h Q := by
  unfold bX12_checkFactor at hq
  refine x_aload_n 0 dX12_checkFactor_0 rfl ?_
  obtain ⟨g1, hq⟩ := hq
  refine x_get (v := rv (fR h x0 3113)) fdX12_96 dX12_checkFactor_1 g1 rfl ?_
  refine x_iload_n 1 dX12_checkFactor_4 rfl ?_
  refine x_aload_n 0 dX12_checkFactor_5 rfl ?_
  refine x_iload_n 1 dX12_checkFactor_6 rfl ?_
  obtain ⟨g2, g3, hq⟩ := hq
  refine x_callV (Yc := YX12_factorType) (as := [.int x1]) (st := [.int x1, rv (fR h x0 3113)]) q4324 mvX12_factorType g1 rfl dX12_checkFactor_7 (xle (xal1 (rv_cat _) (xal1 rfl xal0)) (by decide)) (xfr g2) (xlo (xsw1 rfl (xsw1 (rv_cat _) xsw0)) (by decide) g3) (xKr hq (fun x5 h4 hq e6 => ?_) (fun _ _ q _ => q))
  replace hq := hq e6
  obtain ⟨g7, hq⟩ := hq
  obtain ⟨g8, hq⟩ := hq
  obtain ⟨i9, hq⟩ := hq
  obtain ⟨h10, e11⟩ : ∃ y, y = tR h4 (fR h x0 3113) (Int32.toNatClampNeg x1) x5 := ⟨_, rfl⟩
  replace hq := hq h10 e11
  refine x_aast 8 13 as_8_13 g7 (Or.inl (by rw [g7]; rfl)) g8 i9 dX12_checkFactor_10 e11 ?_
  refine x_aload_n 0 dX12_checkFactor_11 rfl ?_
  have t12 : tg h4 x0 = 13 := e6.tg g1 (by decide)
  have t13 : tg h10 x0 = 13 := by rw [e11]; exact t12
  refine x_get (v := rv (fR h10 x0 3113)) fdX12_96 dX12_checkFactor_12 t13 rfl ?_
  refine x_iload_n 1 dX12_checkFactor_15 rfl ?_
  obtain ⟨g14, hq⟩ := hq
  obtain ⟨i15, hq⟩ := hq
  refine x_aald 8 rfl g14 (by decide) i15 dX12_checkFactor_16 ?_
  exact x_aret rfl xty_O dX12_checkFactor_17 hq
theorem rX12_checkFactor {G : xG} {fr lo : Nat} {x0 : Nat} {x1 : Int32} {h : xH} {Q : Outcome → xH → Prop} (hq : bX12_checkFactor G fr lo x0 x1 h Q) : xR G YX12_checkFactor fr lo [rv x0, .int x1] h Q := by
  show xP _ _ _ _ _ (lv_args 0 _) _ _ _
  rw [show lv_args 0 [rv x0, .int x1] = [(0, rv x0), (1, .int x1)] from (xla1 (rv_cat _) (xla1 rfl xla0))]
  exact uX12_checkFactor hq
set_option maxRecDepth 100000 in
theorem dX12_factorType_0 : decode cX12_factorType 0 = .ok (.aload_n 0, 1) := by decide +kernel
set_option maxRecDepth 100000 in
theorem dX12_factorType_1 : decode cX12_factorType 1 = .ok (.getfield 67, 3) := by decide +kernel
set_option maxRecDepth 100000 in
theorem dX12_factorType_4 : decode cX12_factorType 4 = .ok (.iload_n 1, 1) := by decide +kernel
set_option maxRecDepth 100000 in
theorem dX12_factorType_5 : decode cX12_factorType 5 = .ok (.iaload, 1) := by decide +kernel
set_option maxRecDepth 100000 in
theorem dX12_factorType_6 : decode cX12_factorType 6 = .ok (.tableswitch 168 53 60 #[46, 51, 56, 103, 108, 119, 156, 162], 46) := by decide +kernel
set_option maxRecDepth 100000 in
theorem dX12_factorType_52 : decode cX12_factorType 52 = .ok (.aload_n 0, 1) := by decide +kernel
set_option maxRecDepth 100000 in
theorem dX12_factorType_53 : decode cX12_factorType 53 = .ok (.getfield 109, 3) := by decide +kernel
set_option maxRecDepth 100000 in
theorem dX12_factorType_56 : decode cX12_factorType 56 = .ok (.areturn, 1) := by decide +kernel
set_option maxRecDepth 100000 in
theorem dX12_factorType_57 : decode cX12_factorType 57 = .ok (.aload_n 0, 1) := by decide +kernel
set_option maxRecDepth 100000 in
theorem dX12_factorType_58 : decode cX12_factorType 58 = .ok (.getfield 113, 3) := by decide +kernel
set_option maxRecDepth 100000 in
theorem dX12_factorType_61 : decode cX12_factorType 61 = .ok (.areturn, 1) := by decide +kernel
set_option maxRecDepth 100000 in
theorem dX12_factorType_62 : decode cX12_factorType 62 = .ok (.aload_n 0, 1) := by decide +kernel
set_option maxRecDepth 100000 in
theorem dX12_factorType_63 : decode cX12_factorType 63 = .ok (.getfield 35, 3) := by decide +kernel
set_option maxRecDepth 100000 in
theorem dX12_factorType_66 : decode cX12_factorType 66 = .ok (.aload_n 0, 1) := by decide +kernel
set_option maxRecDepth 100000 in
theorem dX12_factorType_67 : decode cX12_factorType 67 = .ok (.getfield 70, 3) := by decide +kernel
set_option maxRecDepth 100000 in
theorem dX12_factorType_70 : decode cX12_factorType 70 = .ok (.iload_n 1, 1) := by decide +kernel
set_option maxRecDepth 100000 in
theorem dX12_factorType_71 : decode cX12_factorType 71 = .ok (.iaload, 1) := by decide +kernel
set_option maxRecDepth 100000 in
theorem dX12_factorType_72 : decode cX12_factorType 72 = .ok (.iaload, 1) := by decide +kernel
set_option maxRecDepth 100000 in
theorem dX12_factorType_73 : decode cX12_factorType 73 = .ok (.iconst 1, 1) := by decide +kernel
set_option maxRecDepth 100000 in
theorem dX12_factorType_74 : decode cX12_factorType 74 = .ok (.if_icmp .ne 8, 3) := by decide +kernel
set_option maxRecDepth 100000 in
theorem dX12_factorType_77 : decode cX12_factorType 77 = .ok (.aload_n 0, 1) := by decide +kernel
set_option maxRecDepth 100000 in
theorem dX12_factorType_78 : decode cX12_factorType 78 = .ok (.getfield 119, 3) := by decide +kernel
set_option maxRecDepth 100000 in
theorem dX12_factorType_81 : decode cX12_factorType 81 = .ok (.areturn, 1) := by decide +kernel
set_option maxRecDepth 100000 in
theorem dX12_factorType_82 : decode cX12_factorType 82 = .ok (.new 94, 3) := by decide +kernel
set_option maxRecDepth 100000 in
theorem dX12_factorType_85 : decode cX12_factorType 85 = .ok (.dup, 1) := by decide +kernel
set_option maxRecDepth 100000 in
theorem dX12_factorType_86 : decode cX12_factorType 86 = .ok (.bipush 13, 2) := by decide +kernel
set_option maxRecDepth 100000 in
theorem dX12_factorType_88 : decode cX12_factorType 88 = .ok (.invokespecial 106, 3) := by decide +kernel
set_option maxRecDepth 100000 in
theorem dX12_factorType_91 : decode cX12_factorType 91 = .ok (.astore_n 2, 1) := by decide +kernel
set_option maxRecDepth 100000 in
theorem dX12_factorType_92 : decode cX12_factorType 92 = .ok (.aload_n 2, 1) := by decide +kernel
set_option maxRecDepth 100000 in
theorem dX12_factorType_93 : decode cX12_factorType 93 = .ok (.aload_n 0, 1) := by decide +kernel
set_option maxRecDepth 100000 in
theorem dX12_factorType_94 : decode cX12_factorType 94 = .ok (.getfield 35, 3) := by decide +kernel
set_option maxRecDepth 100000 in
theorem dX12_factorType_97 : decode cX12_factorType 97 = .ok (.aload_n 0, 1) := by decide +kernel
set_option maxRecDepth 100000 in
theorem dX12_factorType_98 : decode cX12_factorType 98 = .ok (.getfield 70, 3) := by decide +kernel
set_option maxRecDepth 100000 in
theorem dX12_factorType_101 : decode cX12_factorType 101 = .ok (.iload_n 1, 1) := by decide +kernel
set_option maxRecDepth 100000 in
theorem dX12_factorType_102 : decode cX12_factorType 102 = .ok (.iaload, 1) := by decide +kernel
set_option maxRecDepth 100000 in
theorem dX12_factorType_103 : decode cX12_factorType 103 = .ok (.iaload, 1) := by decide +kernel
set_option maxRecDepth 100000 in
theorem dX12_factorType_104 : decode cX12_factorType 104 = .ok (.putfield 595, 3) := by decide +kernel
set_option maxRecDepth 100000 in
theorem dX12_factorType_107 : decode cX12_factorType 107 = .ok (.aload_n 2, 1) := by decide +kernel
set_option maxRecDepth 100000 in
theorem dX12_factorType_108 : decode cX12_factorType 108 = .ok (.areturn, 1) := by decide +kernel
set_option maxRecDepth 100000 in
theorem dX12_factorType_109 : decode cX12_factorType 109 = .ok (.aload_n 0, 1) := by decide +kernel
set_option maxRecDepth 100000 in
theorem dX12_factorType_110 : decode cX12_factorType 110 = .ok (.getfield 125, 3) := by decide +kernel
set_option maxRecDepth 100000 in
theorem dX12_factorType_113 : decode cX12_factorType 113 = .ok (.areturn, 1) := by decide +kernel
set_option maxRecDepth 100000 in
theorem dX12_factorType_114 : decode cX12_factorType 114 = .ok (.aload_n 0, 1) := by decide +kernel
set_option maxRecDepth 100000 in
theorem dX12_factorType_115 : decode cX12_factorType 115 = .ok (.aload_n 0, 1) := by decide +kernel
set_option maxRecDepth 100000 in
theorem dX12_factorType_116 : decode cX12_factorType 116 = .ok (.getfield 73, 3) := by decide +kernel
set_option maxRecDepth 100000 in
theorem dX12_factorType_119 : decode cX12_factorType 119 = .ok (.iload_n 1, 1) := by decide +kernel
set_option maxRecDepth 100000 in
theorem dX12_factorType_120 : decode cX12_factorType 120 = .ok (.iaload, 1) := by decide +kernel
set_option maxRecDepth 100000 in
theorem dX12_factorType_121 : decode cX12_factorType 121 = .ok (.invokevirtual 989, 3) := by decide +kernel
set_option maxRecDepth 100000 in
theorem dX12_factorType_124 : decode cX12_factorType 124 = .ok (.areturn, 1) := by decide +kernel
set_option maxRecDepth 100000 in
theorem dX12_factorType_125 : decode cX12_factorType 125 = .ok (.aload_n 0, 1) := by decide +kernel
set_option maxRecDepth 100000 in
theorem dX12_factorType_126 : decode cX12_factorType 126 = .ok (.aload_n 0, 1) := by decide +kernel
set_option maxRecDepth 100000 in
theorem dX12_factorType_127 : decode cX12_factorType 127 = .ok (.getfield 73, 3) := by decide +kernel
set_option maxRecDepth 100000 in
theorem dX12_factorType_130 : decode cX12_factorType 130 = .ok (.iload_n 1, 1) := by decide +kernel
set_option maxRecDepth 100000 in
theorem dX12_factorType_131 : decode cX12_factorType 131 = .ok (.iaload, 1) := by decide +kernel
set_option maxRecDepth 100000 in
theorem dX12_factorType_132 : decode cX12_factorType 132 = .ok (.invokevirtual 1073, 3) := by decide +kernel
set_option maxRecDepth 100000 in
theorem dX12_factorType_135 : decode cX12_factorType 135 = .ok (.invokevirtual 867, 3) := by decide +kernel
set_option maxRecDepth 100000 in
theorem dX12_factorType_138 : decode cX12_factorType 138 = .ok (.aload_n 0, 1) := by decide +kernel
set_option maxRecDepth 100000 in
theorem dX12_factorType_139 : decode cX12_factorType 139 = .ok (.getfield 116, 3) := by decide +kernel
set_option maxRecDepth 100000 in
theorem dX12_factorType_142 : decode cX12_factorType 142 = .ok (.if_acmp .eq 15, 3) := by decide +kernel
set_option maxRecDepth 100000 in
theorem dX12_factorType_145 : decode cX12_factorType 145 = .ok (.aload_n 0, 1) := by decide +kernel
set_option maxRecDepth 100000 in
theorem dX12_factorType_146 : decode cX12_factorType 146 = .ok (.bipush 7, 2) := by decide +kernel
set_option maxRecDepth 100000 in
theorem dX12_factorType_148 : decode cX12_factorType 148 = .ok (.aload_n 0, 1) := by decide +kernel
set_option maxRecDepth 100000 in
theorem dX12_factorType_149 : decode cX12_factorType 149 = .ok (.getfield 70, 3) := by decide +kernel
set_option maxRecDepth 100000 in
theorem dX12_factorType_152 : decode cX12_factorType 152 = .ok (.iload_n 1, 1) := by decide +kernel
set_option maxRecDepth 100000 in
theorem dX12_factorType_153 : decode cX12_factorType 153 = .ok (.iaload, 1) := by decide +kernel
set_option maxRecDepth 100000 in
theorem dX12_factorType_154 : decode cX12_factorType 154 = .ok (.invokevirtual 570, 3) := by decide +kernel
set_option maxRecDepth 100000 in
theorem dX12_factorType_157 : decode cX12_factorType 157 = .ok (.aload_n 0, 1) := by decide +kernel
set_option maxRecDepth 100000 in
theorem dX12_factorType_158 : decode cX12_factorType 158 = .ok (.getfield 116, 3) := by decide +kernel
set_option maxRecDepth 100000 in
theorem dX12_factorType_161 : decode cX12_factorType 161 = .ok (.areturn, 1) := by decide +kernel
set_option maxRecDepth 100000 in
theorem dX12_factorType_162 : decode cX12_factorType 162 = .ok (.aload_n 0, 1) := by decide +kernel
set_option maxRecDepth 100000 in
theorem dX12_factorType_163 : decode cX12_factorType 163 = .ok (.iload_n 1, 1) := by decide +kernel
set_option maxRecDepth 100000 in
theorem dX12_factorType_164 : decode cX12_factorType 164 = .ok (.invokevirtual 1079, 3) := by decide +kernel
set_option maxRecDepth 100000 in
theorem dX12_factorType_167 : decode cX12_factorType 167 = .ok (.areturn, 1) := by decide +kernel
set_option maxRecDepth 100000 in
theorem dX12_factorType_168 : decode cX12_factorType 168 = .ok (.aload_n 0, 1) := by decide +kernel
set_option maxRecDepth 100000 in
theorem dX12_factorType_169 : decode cX12_factorType 169 = .ok (.iload_n 1, 1) := by decide +kernel
set_option maxRecDepth 100000 in
theorem dX12_factorType_170 : decode cX12_factorType 170 = .ok (.invokevirtual 1082, 3) := by decide +kernel
set_option maxRecDepth 100000 in
theorem dX12_factorType_173 : decode cX12_factorType 173 = .ok (.areturn, 1) := by decide +kernel
set_option maxRecDepth 100000 in
theorem dX12_factorType_174 : decode cX12_factorType 174 = .ok (.aload_n 0, 1) := by decide +kernel
set_option maxRecDepth 100000 in
theorem dX12_factorType_175 : decode cX12_factorType 175 = .ok (.iload_n 1, 1) := by decide +kernel
set_option maxRecDepth 100000 in
theorem dX12_factorType_176 : decode cX12_factorType 176 = .ok (.invokevirtual 1085, 3) := by decide +kernel
set_option maxRecDepth 100000 in
theorem dX12_factorType_179 : decode cX12_factorType 179 = .ok (.areturn, 1) := by decide +kernel
set_option maxRecDepth 100000 in
def bX12_factorType_157 (G : xG) (fr lo : Nat) (x0 : Nat) (h : xH) (Q : Outcome → xH → Prop) : Prop := tg h x0 = 13 ∧ Q (.returned (some (rv (fR h x0 3117)))) h
set_option maxRecDepth 100000 in
theorem uX12_factorType_157 {G : xG} {fr lo : Nat} {x0 : Nat} {h : xH} {Q : Outcome → xH → Prop} (hq : bX12_factorType_157 G fr lo x0 h Q) : xP G YX12_factorType fr lo 157 [(0, rv x0)] [] h Q := by
  unfold bX12_factorType_157 at hq
  refine x_aload_n 0 dX12_factorType_157 rfl ?_
  obtain ⟨g1, hq⟩ := hq
  refine x_get (v := rv (fR h x0 3117)) fdX12_116 dX12_factorType_158 g1 rfl ?_
  exact x_aret rfl xty_O dX12_factorType_161 hq
set_option maxRecDepth 100000 in
def bX12_factorType (G : xG) (fr lo : Nat) (x0 : Nat) (x1 : Int32) (h : xH) (Q : Outcome → xH → Prop) : Prop := tg h x0 = 13 ∧ tg h (fR h x0 3101) = 100 ∧ vp_in x1 (ln h (fR h x0 3101)) ∧ (((aI h (fR h x0 3101) (Int32.toNatClampNeg x1)) = 53 → Q (.returned (some (rv (fR h x0 3115)))) h) ∧ ((aI h (fR h x0 3101) (Int32.toNatClampNeg x1)) = 54 → Q (.returned (some (rv (fR h x0 3116)))) h) ∧ ((aI h (fR h x0 3101) (Int32.toNatClampNeg x1)) = 55 → tg h (fR h x0 3102) = 100 ∧ vp_in x1 (ln h (fR h x0 3102)) ∧ tg h (fR h x0 3085) = 100 ∧ vp_in (aI h (fR h x0 3102) (Int32.toNatClampNeg x1)) (ln h (fR h x0 3085)) ∧ ((¬ (aI h (fR h x0 3085) (Int32.toNatClampNeg (aI h (fR h x0 3102) (Int32.toNatClampNeg x1)))) = 1 → nx h + 1 ≤ xGN G ∧ us h + 8 ≤ xGU G ∧ (∀ (a14 : Nat) (h15 : xH), a14 = nx h + 1 → h15 = nO h 14 8 → xfresh h a14 → 1 ≤ fr ∧ 14 ≤ lo ∧ xRv G YX13_init (fr - 1) (lo - 14) [rv a14, .int 13] h15 (fun h22 => xext h15 h22 → tg h22 (fR h22 x0 3102) = 100 ∧ vp_in x1 (ln h22 (fR h22 x0 3102)) ∧ tg h22 (fR h22 x0 3085) = 100 ∧ vp_in (aI h22 (fR h22 x0 3102) (Int32.toNatClampNeg x1)) (ln h22 (fR h22 x0 3085)) ∧ (∀ h32 : xH, h32 = sI h22 a14 3330 (aI h22 (fR h22 x0 3085) (Int32.toNatClampNeg (aI h22 (fR h22 x0 3102) (Int32.toNatClampNeg x1)))) → Q (.returned (some (rv a14))) h32)) (fun r h2 => Q (.threw r) h2))) ∧ ((aI h (fR h x0 3085) (Int32.toNatClampNeg (aI h (fR h x0 3102) (Int32.toNatClampNeg x1)))) = 1 → Q (.returned (some (rv (fR h x0 3118)))) h))) ∧ ((aI h (fR h x0 3101) (Int32.toNatClampNeg x1)) = 56 → Q (.returned (some (rv (fR h x0 3120)))) h) ∧ ((aI h (fR h x0 3101) (Int32.toNatClampNeg x1)) = 57 → tg h (fR h x0 3103) = 100 ∧ vp_in x1 (ln h (fR h x0 3103)) ∧ 1 ≤ fr ∧ 15 ≤ lo ∧ xRr G YX12_checkE (fr - 1) (lo - 15) [rv x0, .int (aI h (fR h x0 3103) (Int32.toNatClampNeg x1))] h (fun x41 h40 => xext h h40 → Q (.returned (some (rv x41))) h40) (fun r h2 => Q (.threw r) h2)) ∧ ((aI h (fR h x0 3101) (Int32.toNatClampNeg x1)) = 58 → tg h (fR h x0 3103) = 100 ∧ vp_in x1 (ln h (fR h x0 3103)) ∧ 1 ≤ fr ∧ 13 ≤ lo ∧ xRr G YX12_checkFactor (fr - 1) (lo - 13) [rv x0, .int (aI h (fR h x0 3103) (Int32.toNatClampNeg x1))] h (fun x49 h48 => xext h h48 → tg h48 x49 = 14 ∧ 1 ≤ fr ∧ 12 ≤ lo ∧ xRr G YX13_own (fr - 1) (lo - 12) [rv x49] h48 (fun x55 h54 => xext h48 h54 → ((x55 = (fR h54 x0 3117) → bX12_factorType_157 G fr lo x0 h54 Q) ∧ (¬ x55 = (fR h54 x0 3117) → tg h54 (fR h54 x0 3102) = 100 ∧ vp_in x1 (ln h54 (fR h54 x0 3102)) ∧ 1 ≤ fr ∧ 14 ≤ lo ∧ xRv G YX12_refuse (fr - 1) (lo - 14) [rv x0, .int 7, .int (aI h54 (fR h54 x0 3102) (Int32.toNatClampNeg x1))] h54 (fun h64 => xext h54 h64 → bX12_factorType_157 G fr lo x0 h64 Q) (fun r h2 => Q (.threw r) h2)))) (fun r h2 => Q (.threw r) h2)) (fun r h2 => Q (.threw r) h2)) ∧ ((aI h (fR h x0 3101) (Int32.toNatClampNeg x1)) = 59 → 1 ≤ fr ∧ 17 ≤ lo ∧ xRr G YX12_setType (fr - 1) (lo - 17) [rv x0, .int x1] h (fun x71 h70 => xext h h70 → Q (.returned (some (rv x71))) h70) (fun r h2 => Q (.threw r) h2)) ∧ ((aI h (fR h x0 3101) (Int32.toNatClampNeg x1)) = 60 → 1 ≤ fr ∧ 17 ≤ lo ∧ xRr G YX12_callType (fr - 1) (lo - 17) [rv x0, .int x1] h (fun x77 h76 => xext h h76 → Q (.returned (some (rv x77))) h76) (fun r h2 => Q (.threw r) h2)) ∧ (¬ (aI h (fR h x0 3101) (Int32.toNatClampNeg x1)) = 53 → ¬ (aI h (fR h x0 3101) (Int32.toNatClampNeg x1)) = 54 → ¬ (aI h (fR h x0 3101) (Int32.toNatClampNeg x1)) = 55 → ¬ (aI h (fR h x0 3101) (Int32.toNatClampNeg x1)) = 56 → ¬ (aI h (fR h x0 3101) (Int32.toNatClampNeg x1)) = 57 → ¬ (aI h (fR h x0 3101) (Int32.toNatClampNeg x1)) = 58 → ¬ (aI h (fR h x0 3101) (Int32.toNatClampNeg x1)) = 59 → ¬ (aI h (fR h x0 3101) (Int32.toNatClampNeg x1)) = 60 → 1 ≤ fr ∧ 14 ≤ lo ∧ xRr G YX12_nameType (fr - 1) (lo - 14) [rv x0, .int x1] h (fun x82 h81 => xext h h81 → Q (.returned (some (rv x82))) h81) (fun r h2 => Q (.threw r) h2)))
set_option maxRecDepth 100000 in
theorem uX12_factorType {G : xG} {fr lo : Nat} {x0 : Nat} {x1 : Int32} {h : xH} {Q : Outcome → xH → Prop} (hq : bX12_factorType G fr lo x0 x1 h Q) : xP G YX12_factorType fr lo 0 [(0, rv x0), (1, .int x1)] [] h Q := by
  unfold bX12_factorType at hq
  refine x_aload_n 0 dX12_factorType_0 rfl ?_
  obtain ⟨g1, hq⟩ := hq
  refine x_get (v := rv (fR h x0 3101)) fdX12_67 dX12_factorType_1 g1 rfl ?_
  refine x_iload_n 1 dX12_factorType_4 rfl ?_
  obtain ⟨g2, hq⟩ := hq
  obtain ⟨i3, hq⟩ := hq
  refine x_iald 0 (Or.inl rfl) g2 i3 dX12_factorType_5 ?_
  by_cases c4 : (aI h (fR h x0 3101) (Int32.toNatClampNeg x1)) = 53
  · replace hq := hq.1 c4
    refine x_tin (tgt := 52) (off := 46) 53 c4 dX12_factorType_6 (by decide) (by decide) (by decide) (by decide) ?_
    refine x_aload_n 0 dX12_factorType_52 rfl ?_
    refine x_get (v := rv (fR h x0 3115)) fdX12_109 dX12_factorType_53 g1 rfl ?_
    exact x_aret rfl xty_O dX12_factorType_56 hq
  replace hq := hq.2
  by_cases c5 : (aI h (fR h x0 3101) (Int32.toNatClampNeg x1)) = 54
  · replace hq := hq.1 c5
    refine x_tin (tgt := 57) (off := 51) 54 c5 dX12_factorType_6 (by decide) (by decide) (by decide) (by decide) ?_
    refine x_aload_n 0 dX12_factorType_57 rfl ?_
    refine x_get (v := rv (fR h x0 3116)) fdX12_113 dX12_factorType_58 g1 rfl ?_
    exact x_aret rfl xty_O dX12_factorType_61 hq
  replace hq := hq.2
  by_cases c6 : (aI h (fR h x0 3101) (Int32.toNatClampNeg x1)) = 55
  · replace hq := hq.1 c6
    refine x_tin (tgt := 62) (off := 56) 55 c6 dX12_factorType_6 (by decide) (by decide) (by decide) (by decide) ?_
    refine x_aload_n 0 dX12_factorType_62 rfl ?_
    refine x_get (v := rv (fR h x0 3085)) fdX12_35 dX12_factorType_63 g1 rfl ?_
    refine x_aload_n 0 dX12_factorType_66 rfl ?_
    refine x_get (v := rv (fR h x0 3102)) fdX12_70 dX12_factorType_67 g1 rfl ?_
    refine x_iload_n 1 dX12_factorType_70 rfl ?_
    obtain ⟨g7, hq⟩ := hq
    obtain ⟨i8, hq⟩ := hq
    refine x_iald 0 (Or.inl rfl) g7 i8 dX12_factorType_71 ?_
    obtain ⟨g9, hq⟩ := hq
    obtain ⟨i10, hq⟩ := hq
    refine x_iald 0 (Or.inl rfl) g9 i10 dX12_factorType_72 ?_
    refine x_iconst (v := 1) dX12_factorType_73 (by decide) ?_
    refine x_icmp_ne (tgt := 82) dX12_factorType_74 (by decide) (fun c11 => ?_) (fun c11 => ?_)
    · replace hq := hq.1 c11
      obtain ⟨g12, g13, hq⟩ := hq
      obtain ⟨a14, e16⟩ : ∃ y, y = nx h + 1 := ⟨_, rfl⟩
      obtain ⟨h15, e17⟩ : ∃ y, y = nO h 14 8 := ⟨_, rfl⟩
      refine x_new' cdX12_94 dX12_factorType_82 g12 g13 e16 e17 (fun f18 => ?_)
      replace hq := hq a14 h15 e16 e17 f18
      have t19 : tg h15 a14 = 14 := by rw [e17, e16]; exact tg_nO
      refine x_dup dX12_factorType_85 (rv_cat _) ?_
      refine x_bipush (v := 13) dX12_factorType_86 (by decide) ?_
      obtain ⟨g20, g21, hq⟩ := hq
      refine x_callI (Yc := YX13_init) (as := [.int 13]) (st := [rv a14]) q3209 miX13_init (by rw [t19]; decide) rfl dX12_factorType_88 (xle (xal1 (rv_cat _) (xal1 rfl xal0)) (by decide)) (xfr g20) (xlo (xsw1 (rv_cat _) xsw0) (by decide) g21) (xKv hq (fun h22 hq e24 => ?_) (fun _ _ q _ => q))
      replace hq := hq e24
      refine x_astore_n (lv' := [(2, rv a14), (0, rv x0), (1, .int x1)]) dX12_factorType_91 (by decide) rfl ?_
      refine x_aload_n 0 dX12_factorType_92 rfl ?_
      refine x_aload_n 1 dX12_factorType_93 rfl ?_
      have t25 : tg h15 x0 = 13 := by rw [e17]; exact tg_nO_ne e16 f18 g1 (by decide)
      have t26 : tg h22 x0 = 13 := e24.tg t25 (by decide)
      refine x_get (v := rv (fR h22 x0 3085)) fdX12_35 dX12_factorType_94 t26 rfl ?_
      refine x_aload_n 1 dX12_factorType_97 rfl ?_
      refine x_get (v := rv (fR h22 x0 3102)) fdX12_70 dX12_factorType_98 t26 rfl ?_
      refine x_iload_n 2 dX12_factorType_101 rfl ?_
      obtain ⟨g27, hq⟩ := hq
      obtain ⟨i28, hq⟩ := hq
      refine x_iald 0 (Or.inl rfl) g27 i28 dX12_factorType_102 ?_
      obtain ⟨g29, hq⟩ := hq
      obtain ⟨i30, hq⟩ := hq
      refine x_iald 0 (Or.inl rfl) g29 i30 dX12_factorType_103 ?_
      have t31 : tg h22 a14 = 14 := e24.tg t19 (by decide)
      obtain ⟨h32, e33⟩ : ∃ y, y = sI h22 a14 3330 (aI h22 (fR h22 x0 3085) (Int32.toNatClampNeg (aI h22 (fR h22 x0 3102) (Int32.toNatClampNeg x1)))) := ⟨_, rfl⟩
      replace hq := hq h32 e33
      refine x_putI fdX12_595 xty_I1 dX12_factorType_104 t31 (Or.inl (by rw [t31]; rfl)) xnI rfl e33 ?_
      refine x_aload_n 0 dX12_factorType_107 rfl ?_
      exact x_aret rfl xty_O dX12_factorType_108 hq
    · replace hq := hq.2 c11
      refine x_aload_n 0 dX12_factorType_77 rfl ?_
      refine x_get (v := rv (fR h x0 3118)) fdX12_119 dX12_factorType_78 g1 rfl ?_
      exact x_aret rfl xty_O dX12_factorType_81 hq
  replace hq := hq.2
  by_cases c34 : (aI h (fR h x0 3101) (Int32.toNatClampNeg x1)) = 56
  · replace hq := hq.1 c34
    refine x_tin (tgt := 109) (off := 103) 56 c34 dX12_factorType_6 (by decide) (by decide) (by decide) (by decide) ?_
    refine x_aload_n 0 dX12_factorType_109 rfl ?_
    refine x_get (v := rv (fR h x0 3120)) fdX12_125 dX12_factorType_110 g1 rfl ?_
    exact x_aret rfl xty_O dX12_factorType_113 hq
  replace hq := hq.2
  by_cases c35 : (aI h (fR h x0 3101) (Int32.toNatClampNeg x1)) = 57
  · replace hq := hq.1 c35
    refine x_tin (tgt := 114) (off := 108) 57 c35 dX12_factorType_6 (by decide) (by decide) (by decide) (by decide) ?_
    refine x_aload_n 0 dX12_factorType_114 rfl ?_
    refine x_aload_n 0 dX12_factorType_115 rfl ?_
    refine x_get (v := rv (fR h x0 3103)) fdX12_73 dX12_factorType_116 g1 rfl ?_
    refine x_iload_n 1 dX12_factorType_119 rfl ?_
    obtain ⟨g36, hq⟩ := hq
    obtain ⟨i37, hq⟩ := hq
    refine x_iald 0 (Or.inl rfl) g36 i37 dX12_factorType_120 ?_
    obtain ⟨g38, g39, hq⟩ := hq
    refine x_callV (Yc := YX12_checkE) (as := [.int (aI h (fR h x0 3103) (Int32.toNatClampNeg x1))]) (st := []) q4308 mvX12_checkE g1 rfl dX12_factorType_121 (xle (xal1 (rv_cat _) (xal1 rfl xal0)) (by decide)) (xfr g38) (xlo xsw0 (by decide) g39) (xKr hq (fun x41 h40 hq e42 => ?_) (fun _ _ q _ => q))
    replace hq := hq e42
    exact x_aret rfl xty_O dX12_factorType_124 hq
  replace hq := hq.2
  by_cases c43 : (aI h (fR h x0 3101) (Int32.toNatClampNeg x1)) = 58
  · replace hq := hq.1 c43
    refine x_tin (tgt := 125) (off := 119) 58 c43 dX12_factorType_6 (by decide) (by decide) (by decide) (by decide) ?_
    refine x_aload_n 0 dX12_factorType_125 rfl ?_
    refine x_aload_n 0 dX12_factorType_126 rfl ?_
    refine x_get (v := rv (fR h x0 3103)) fdX12_73 dX12_factorType_127 g1 rfl ?_
    refine x_iload_n 1 dX12_factorType_130 rfl ?_
    obtain ⟨g44, hq⟩ := hq
    obtain ⟨i45, hq⟩ := hq
    refine x_iald 0 (Or.inl rfl) g44 i45 dX12_factorType_131 ?_
    obtain ⟨g46, g47, hq⟩ := hq
    refine x_callV (Yc := YX12_checkFactor) (as := [.int (aI h (fR h x0 3103) (Int32.toNatClampNeg x1))]) (st := []) q4320 mvX12_checkFactor g1 rfl dX12_factorType_132 (xle (xal1 (rv_cat _) (xal1 rfl xal0)) (by decide)) (xfr g46) (xlo xsw0 (by decide) g47) (xKr hq (fun x49 h48 hq e50 => ?_) (fun _ _ q _ => q))
    replace hq := hq e50
    obtain ⟨g51, hq⟩ := hq
    obtain ⟨g52, g53, hq⟩ := hq
    refine x_callV (Yc := YX13_own) (as := []) (st := []) q4189 mvX13_own g51 rfl dX12_factorType_135 (xle (xal1 (rv_cat _) xal0) (by decide)) (xfr g52) (xlo xsw0 (by decide) g53) (xKr hq (fun x55 h54 hq e56 => ?_) (fun _ _ q _ => q))
    replace hq := hq e56
    refine x_aload_n 0 dX12_factorType_138 rfl ?_
    have t57 : tg h48 x0 = 13 := e50.tg g1 (by decide)
    have t58 : tg h54 x0 = 13 := e56.tg t57 (by decide)
    refine x_get (v := rv (fR h54 x0 3117)) fdX12_116 dX12_factorType_139 t58 rfl ?_
    refine x_acmp_eq (tgt := 157) dX12_factorType_142 (by decide) (fun c59 => ?_) (fun c59 => ?_)
    · replace hq := hq.1 c59
      refine xP.pick (lv' := [(0, rv x0)]) [0] rfl ?_
      exact uX12_factorType_157 hq
    · replace hq := hq.2 c59
      refine x_aload_n 0 dX12_factorType_145 rfl ?_
      refine x_bipush (v := 7) dX12_factorType_146 (by decide) ?_
      refine x_aload_n 0 dX12_factorType_148 rfl ?_
      refine x_get (v := rv (fR h54 x0 3102)) fdX12_70 dX12_factorType_149 t58 rfl ?_
      refine x_iload_n 1 dX12_factorType_152 rfl ?_
      obtain ⟨g60, hq⟩ := hq
      obtain ⟨i61, hq⟩ := hq
      refine x_iald 0 (Or.inl rfl) g60 i61 dX12_factorType_153 ?_
      obtain ⟨g62, g63, hq⟩ := hq
      refine x_callV (Yc := YX12_refuse) (as := [.int 7, .int (aI h54 (fR h54 x0 3102) (Int32.toNatClampNeg x1))]) (st := []) q4095 mvX12_refuse t58 rfl dX12_factorType_154 (xle (xal1 (rv_cat _) (xal1 rfl (xal1 rfl xal0))) (by decide)) (xfr g62) (xlo xsw0 (by decide) g63) (xKv hq (fun h64 hq e66 => ?_) (fun _ _ q _ => q))
      replace hq := hq e66
      refine xP.pick (lv' := [(0, rv x0)]) [0] rfl ?_
      exact uX12_factorType_157 hq
  replace hq := hq.2
  by_cases c67 : (aI h (fR h x0 3101) (Int32.toNatClampNeg x1)) = 59
  · replace hq := hq.1 c67
    refine x_tin (tgt := 162) (off := 156) 59 c67 dX12_factorType_6 (by decide) (by decide) (by decide) (by decide) ?_
    refine x_aload_n 0 dX12_factorType_162 rfl ?_
    refine x_iload_n 1 dX12_factorType_163 rfl ?_
    obtain ⟨g68, g69, hq⟩ := hq
    refine x_callV (Yc := YX12_setType) (as := [.int x1]) (st := []) q4328 mvX12_setType g1 rfl dX12_factorType_164 (xle (xal1 (rv_cat _) (xal1 rfl xal0)) (by decide)) (xfr g68) (xlo xsw0 (by decide) g69) (xKr hq (fun x71 h70 hq e72 => ?_) (fun _ _ q _ => q))
    replace hq := hq e72
    exact x_aret rfl xty_O dX12_factorType_167 hq
  replace hq := hq.2
  by_cases c73 : (aI h (fR h x0 3101) (Int32.toNatClampNeg x1)) = 60
  · replace hq := hq.1 c73
    refine x_tin (tgt := 168) (off := 162) 60 c73 dX12_factorType_6 (by decide) (by decide) (by decide) (by decide) ?_
    refine x_aload_n 0 dX12_factorType_168 rfl ?_
    refine x_iload_n 1 dX12_factorType_169 rfl ?_
    obtain ⟨g74, g75, hq⟩ := hq
    refine x_callV (Yc := YX12_callType) (as := [.int x1]) (st := []) q4332 mvX12_callType g1 rfl dX12_factorType_170 (xle (xal1 (rv_cat _) (xal1 rfl xal0)) (by decide)) (xfr g74) (xlo xsw0 (by decide) g75) (xKr hq (fun x77 h76 hq e78 => ?_) (fun _ _ q _ => q))
    replace hq := hq e78
    exact x_aret rfl xty_O dX12_factorType_173 hq
  replace hq := hq.2
  replace hq := hq c4 c5 c6 c34 c35 c43 c67 c73
  have nc4 := lv_neT c4 (show (53 : Int32).toInt = 53 from by decide)
  have nc5 := lv_neT c5 (show (54 : Int32).toInt = 54 from by decide)
  have nc6 := lv_neT c6 (show (55 : Int32).toInt = 55 from by decide)
  have nc34 := lv_neT c34 (show (56 : Int32).toInt = 56 from by decide)
  have nc35 := lv_neT c35 (show (57 : Int32).toInt = 57 from by decide)
  have nc43 := lv_neT c43 (show (58 : Int32).toInt = 58 from by decide)
  have nc67 := lv_neT c67 (show (59 : Int32).toInt = 59 from by decide)
  have nc73 := lv_neT c73 (show (60 : Int32).toInt = 60 from by decide)
  refine x_tout (tgt := 174) dX12_factorType_6 (by omega) (by decide) ?_
  refine x_aload_n 0 dX12_factorType_174 rfl ?_
  refine x_iload_n 1 dX12_factorType_175 rfl ?_
  obtain ⟨g79, g80, hq⟩ := hq
  refine x_callV (Yc := YX12_nameType) (as := [.int x1]) (st := []) q4397 mvX12_nameType g1 rfl dX12_factorType_176 (xle (xal1 (rv_cat _) (xal1 rfl xal0)) (by decide)) (xfr g79) (xlo xsw0 (by decide) g80) (xKr hq (fun x82 h81 hq e83 => ?_) (fun _ _ q _ => q))
  replace hq := hq e83
  exact x_aret rfl xty_O dX12_factorType_179 hq
theorem rX12_factorType {G : xG} {fr lo : Nat} {x0 : Nat} {x1 : Int32} {h : xH} {Q : Outcome → xH → Prop} (hq : bX12_factorType G fr lo x0 x1 h Q) : xR G YX12_factorType fr lo [rv x0, .int x1] h Q := by
  show xP _ _ _ _ _ (lv_args 0 _) _ _ _
  rw [show lv_args 0 [rv x0, .int x1] = [(0, rv x0), (1, .int x1)] from (xla1 (rv_cat _) (xla1 rfl xla0))]
  exact uX12_factorType hq
set_option maxRecDepth 100000 in
theorem dX12_setType_0 : decode cX12_setType 0 = .ok (.aconst_null, 1) := by decide +kernel
set_option maxRecDepth 100000 in
theorem dX12_setType_1 : decode cX12_setType 1 = .ok (.astore_n 2, 1) := by decide +kernel
set_option maxRecDepth 100000 in
theorem dX12_setType_2 : decode cX12_setType 2 = .ok (.aload_n 0, 1) := by decide +kernel
set_option maxRecDepth 100000 in
theorem dX12_setType_3 : decode cX12_setType 3 = .ok (.getfield 73, 3) := by decide +kernel
set_option maxRecDepth 100000 in
theorem dX12_setType_6 : decode cX12_setType 6 = .ok (.iload_n 1, 1) := by decide +kernel
set_option maxRecDepth 100000 in
theorem dX12_setType_7 : decode cX12_setType 7 = .ok (.iaload, 1) := by decide +kernel
set_option maxRecDepth 100000 in
theorem dX12_setType_8 : decode cX12_setType 8 = .ok (.istore_n 3, 1) := by decide +kernel
set_option maxRecDepth 100000 in
theorem dX12_setType_9 : decode cX12_setType 9 = .ok (.iload_n 3, 1) := by decide +kernel
set_option maxRecDepth 100000 in
theorem dX12_setType_10 : decode cX12_setType 10 = .ok (.iconst (-1), 1) := by decide +kernel
set_option maxRecDepth 100000 in
theorem dX12_setType_11 : decode cX12_setType 11 = .ok (.if_icmp .eq 84, 3) := by decide +kernel
set_option maxRecDepth 100000 in
theorem dX12_setType_14 : decode cX12_setType 14 = .ok (.aload_n 0, 1) := by decide +kernel
set_option maxRecDepth 100000 in
theorem dX12_setType_15 : decode cX12_setType 15 = .ok (.getfield 73, 3) := by decide +kernel
set_option maxRecDepth 100000 in
theorem dX12_setType_18 : decode cX12_setType 18 = .ok (.iload_n 3, 1) := by decide +kernel
set_option maxRecDepth 100000 in
theorem dX12_setType_19 : decode cX12_setType 19 = .ok (.iaload, 1) := by decide +kernel
set_option maxRecDepth 100000 in
theorem dX12_setType_20 : decode cX12_setType 20 = .ok (.istore 4, 2) := by decide +kernel
set_option maxRecDepth 100000 in
theorem dX12_setType_22 : decode cX12_setType 22 = .ok (.iload 4, 2) := by decide +kernel
set_option maxRecDepth 100000 in
theorem dX12_setType_24 : decode cX12_setType 24 = .ok (.iconst (-1), 1) := by decide +kernel
set_option maxRecDepth 100000 in
theorem dX12_setType_25 : decode cX12_setType 25 = .ok (.if_icmp .eq 60, 3) := by decide +kernel
set_option maxRecDepth 100000 in
theorem dX12_setType_28 : decode cX12_setType 28 = .ok (.aload_n 0, 1) := by decide +kernel
set_option maxRecDepth 100000 in
theorem dX12_setType_29 : decode cX12_setType 29 = .ok (.iload 4, 2) := by decide +kernel
set_option maxRecDepth 100000 in
theorem dX12_setType_31 : decode cX12_setType 31 = .ok (.invokevirtual 989, 3) := by decide +kernel
set_option maxRecDepth 100000 in
theorem dX12_setType_34 : decode cX12_setType 34 = .ok (.invokevirtual 867, 3) := by decide +kernel
set_option maxRecDepth 100000 in
theorem dX12_setType_37 : decode cX12_setType 37 = .ok (.astore 5, 2) := by decide +kernel
set_option maxRecDepth 100000 in
theorem dX12_setType_39 : decode cX12_setType 39 = .ok (.aload 5, 2) := by decide +kernel
set_option maxRecDepth 100000 in
theorem dX12_setType_41 : decode cX12_setType 41 = .ok (.invokevirtual 861, 3) := by decide +kernel
set_option maxRecDepth 100000 in
theorem dX12_setType_44 : decode cX12_setType 44 = .ok (.ifCond .eq 13, 3) := by decide +kernel
set_option maxRecDepth 100000 in
theorem dX12_setType_47 : decode cX12_setType 47 = .ok (.aload_n 2, 1) := by decide +kernel
set_option maxRecDepth 100000 in
theorem dX12_setType_48 : decode cX12_setType 48 = .ok (.ifnull 22, 3) := by decide +kernel
set_option maxRecDepth 100000 in
theorem dX12_setType_51 : decode cX12_setType 51 = .ok (.aload 5, 2) := by decide +kernel
set_option maxRecDepth 100000 in
theorem dX12_setType_53 : decode cX12_setType 53 = .ok (.aload_n 2, 1) := by decide +kernel
set_option maxRecDepth 100000 in
theorem dX12_setType_54 : decode cX12_setType 54 = .ok (.if_acmp .eq 16, 3) := by decide +kernel
set_option maxRecDepth 100000 in
theorem dX12_setType_57 : decode cX12_setType 57 = .ok (.aload_n 0, 1) := by decide +kernel
set_option maxRecDepth 100000 in
theorem dX12_setType_58 : decode cX12_setType 58 = .ok (.bipush 7, 2) := by decide +kernel
set_option maxRecDepth 100000 in
theorem dX12_setType_60 : decode cX12_setType 60 = .ok (.aload_n 0, 1) := by decide +kernel
set_option maxRecDepth 100000 in
theorem dX12_setType_61 : decode cX12_setType 61 = .ok (.getfield 70, 3) := by decide +kernel
set_option maxRecDepth 100000 in
theorem dX12_setType_64 : decode cX12_setType 64 = .ok (.iload 4, 2) := by decide +kernel
set_option maxRecDepth 100000 in
theorem dX12_setType_66 : decode cX12_setType 66 = .ok (.iaload, 1) := by decide +kernel
set_option maxRecDepth 100000 in
theorem dX12_setType_67 : decode cX12_setType 67 = .ok (.invokevirtual 570, 3) := by decide +kernel
set_option maxRecDepth 100000 in
theorem dX12_setType_70 : decode cX12_setType 70 = .ok (.aload 5, 2) := by decide +kernel
set_option maxRecDepth 100000 in
theorem dX12_setType_72 : decode cX12_setType 72 = .ok (.astore_n 2, 1) := by decide +kernel
set_option maxRecDepth 100000 in
theorem dX12_setType_73 : decode cX12_setType 73 = .ok (.aload_n 0, 1) := by decide +kernel
set_option maxRecDepth 100000 in
theorem dX12_setType_74 : decode cX12_setType 74 = .ok (.getfield 79, 3) := by decide +kernel
set_option maxRecDepth 100000 in
theorem dX12_setType_77 : decode cX12_setType 77 = .ok (.iload 4, 2) := by decide +kernel
set_option maxRecDepth 100000 in
theorem dX12_setType_79 : decode cX12_setType 79 = .ok (.iaload, 1) := by decide +kernel
set_option maxRecDepth 100000 in
theorem dX12_setType_80 : decode cX12_setType 80 = .ok (.istore 4, 2) := by decide +kernel
set_option maxRecDepth 100000 in
theorem dX12_setType_82 : decode cX12_setType 82 = .ok (.goto (-60), 3) := by decide +kernel
set_option maxRecDepth 100000 in
theorem dX12_setType_85 : decode cX12_setType 85 = .ok (.aload_n 0, 1) := by decide +kernel
set_option maxRecDepth 100000 in
theorem dX12_setType_86 : decode cX12_setType 86 = .ok (.getfield 79, 3) := by decide +kernel
set_option maxRecDepth 100000 in
theorem dX12_setType_89 : decode cX12_setType 89 = .ok (.iload_n 3, 1) := by decide +kernel
set_option maxRecDepth 100000 in
theorem dX12_setType_90 : decode cX12_setType 90 = .ok (.iaload, 1) := by decide +kernel
set_option maxRecDepth 100000 in
theorem dX12_setType_91 : decode cX12_setType 91 = .ok (.istore_n 3, 1) := by decide +kernel
set_option maxRecDepth 100000 in
theorem dX12_setType_92 : decode cX12_setType 92 = .ok (.goto (-83), 3) := by decide +kernel
set_option maxRecDepth 100000 in
theorem dX12_setType_95 : decode cX12_setType 95 = .ok (.new 94, 3) := by decide +kernel
set_option maxRecDepth 100000 in
theorem dX12_setType_98 : decode cX12_setType 98 = .ok (.dup, 1) := by decide +kernel
set_option maxRecDepth 100000 in
theorem dX12_setType_99 : decode cX12_setType 99 = .ok (.bipush 9, 2) := by decide +kernel
set_option maxRecDepth 100000 in
theorem dX12_setType_101 : decode cX12_setType 101 = .ok (.invokespecial 106, 3) := by decide +kernel
set_option maxRecDepth 100000 in
theorem dX12_setType_104 : decode cX12_setType 104 = .ok (.astore_n 3, 1) := by decide +kernel
set_option maxRecDepth 100000 in
theorem dX12_setType_105 : decode cX12_setType 105 = .ok (.aload_n 3, 1) := by decide +kernel
set_option maxRecDepth 100000 in
theorem dX12_setType_106 : decode cX12_setType 106 = .ok (.aload_n 2, 1) := by decide +kernel
set_option maxRecDepth 100000 in
theorem dX12_setType_107 : decode cX12_setType 107 = .ok (.putfield 864, 3) := by decide +kernel
set_option maxRecDepth 100000 in
theorem dX12_setType_110 : decode cX12_setType 110 = .ok (.aload_n 3, 1) := by decide +kernel
set_option maxRecDepth 100000 in
theorem dX12_setType_111 : decode cX12_setType 111 = .ok (.areturn, 1) := by decide +kernel
def lX12_setType_9 (G : xG) (fr lo : Nat) (x0 : Nat) (x2 : Nat) (x3 : Int32) (h : xH) (Q : Outcome → xH → Prop) : Prop := xP G YX12_setType fr lo 9 [(0, rv x0), (2, rv x2), (3, .int x3)] [] h Q
def lX12_setType_22 (G : xG) (fr lo : Nat) (x0 : Nat) (x2 : Nat) (x3 : Int32) (x4 : Int32) (h : xH) (Q : Outcome → xH → Prop) : Prop := xP G YX12_setType fr lo 22 [(0, rv x0), (2, rv x2), (3, .int x3), (4, .int x4)] [] h Q
set_option maxRecDepth 100000 in
def bX12_setType_70 (G : xG) (fr lo : Nat) (x0 : Nat) (x3 : Int32) (x4 : Int32) (x5 : Nat) (h : xH) (Q : Outcome → xH → Prop) : Prop := tg h x0 = 13 ∧ tg h (fR h x0 3105) = 100 ∧ vp_in x4 (ln h (fR h x0 3105)) ∧ lX12_setType_22 G fr lo x0 x5 x3 (aI h (fR h x0 3105) (Int32.toNatClampNeg x4)) h Q
set_option maxRecDepth 100000 in
theorem uX12_setType_70 {G : xG} {fr lo : Nat} {x0 : Nat} {x3 : Int32} {x4 : Int32} {x5 : Nat} {h : xH} {Q : Outcome → xH → Prop} (hq : bX12_setType_70 G fr lo x0 x3 x4 x5 h Q) : xP G YX12_setType fr lo 70 [(0, rv x0), (3, .int x3), (4, .int x4), (5, rv x5)] [] h Q := by
  unfold bX12_setType_70 at hq
  refine x_aload 3 dX12_setType_70 rfl ?_
  refine x_astore_n (lv' := [(2, rv x5), (0, rv x0), (3, .int x3), (4, .int x4), (5, rv x5)]) dX12_setType_72 (by decide) rfl ?_
  refine x_aload_n 1 dX12_setType_73 rfl ?_
  obtain ⟨g1, hq⟩ := hq
  refine x_get (v := rv (fR h x0 3105)) fdX12_79 dX12_setType_74 g1 rfl ?_
  refine x_iload 3 dX12_setType_77 rfl ?_
  obtain ⟨g2, hq⟩ := hq
  obtain ⟨i3, hq⟩ := hq
  refine x_iald 0 (Or.inl rfl) g2 i3 dX12_setType_79 ?_
  refine x_istore (lv' := [(4, .int (aI h (fR h x0 3105) (Int32.toNatClampNeg x4))), (2, rv x5), (0, rv x0), (3, .int x3), (5, rv x5)]) dX12_setType_80 (by decide) rfl ?_
  refine x_goto (tgt := 22) dX12_setType_82 (by decide) ?_
  refine xP.pick (lv' := [(0, rv x0), (2, rv x5), (3, .int x3), (4, .int (aI h (fR h x0 3105) (Int32.toNatClampNeg x4)))]) [2, 1, 3, 0] rfl ?_
  exact hq
set_option maxRecDepth 100000 in
def bX12_setType_57 (G : xG) (fr lo : Nat) (x0 : Nat) (x3 : Int32) (x4 : Int32) (x5 : Nat) (h : xH) (Q : Outcome → xH → Prop) : Prop := tg h x0 = 13 ∧ tg h (fR h x0 3102) = 100 ∧ vp_in x4 (ln h (fR h x0 3102)) ∧ 1 ≤ fr ∧ 14 ≤ lo ∧ xRv G YX12_refuse (fr - 1) (lo - 14) [rv x0, .int 7, .int (aI h (fR h x0 3102) (Int32.toNatClampNeg x4))] h (fun h6 => xext h h6 → bX12_setType_70 G fr lo x0 x3 x4 x5 h6 Q) (fun r h2 => Q (.threw r) h2)
set_option maxRecDepth 100000 in
theorem uX12_setType_57 {G : xG} {fr lo : Nat} {x0 : Nat} {x3 : Int32} {x4 : Int32} {x5 : Nat} {h : xH} {Q : Outcome → xH → Prop} (hq : bX12_setType_57 G fr lo x0 x3 x4 x5 h Q) : xP G YX12_setType fr lo 57 [(0, rv x0), (3, .int x3), (4, .int x4), (5, rv x5)] [] h Q := by
  unfold bX12_setType_57 at hq
  refine x_aload_n 0 dX12_setType_57 rfl ?_
  refine x_bipush (v := 7) dX12_setType_58 (by decide) ?_
  refine x_aload_n 0 dX12_setType_60 rfl ?_
  obtain ⟨g1, hq⟩ := hq
  refine x_get (v := rv (fR h x0 3102)) fdX12_70 dX12_setType_61 g1 rfl ?_
  refine x_iload 2 dX12_setType_64 rfl ?_
  obtain ⟨g2, hq⟩ := hq
  obtain ⟨i3, hq⟩ := hq
  refine x_iald 0 (Or.inl rfl) g2 i3 dX12_setType_66 ?_
  obtain ⟨g4, g5, hq⟩ := hq
  refine x_callV (Yc := YX12_refuse) (as := [.int 7, .int (aI h (fR h x0 3102) (Int32.toNatClampNeg x4))]) (st := []) q4095 mvX12_refuse g1 rfl dX12_setType_67 (xle (xal1 (rv_cat _) (xal1 rfl (xal1 rfl xal0))) (by decide)) (xfr g4) (xlo xsw0 (by decide) g5) (xKv hq (fun h6 hq e8 => ?_) (fun _ _ q _ => q))
  replace hq := hq e8
  exact uX12_setType_70 hq
set_option maxRecDepth 100000 in
def bX12_setType_22 (G : xG) (fr lo : Nat) (x0 : Nat) (x2 : Nat) (x3 : Int32) (x4 : Int32) (h : xH) (Q : Outcome → xH → Prop) : Prop := ((x4 = (-1) → tg h x0 = 13 ∧ tg h (fR h x0 3105) = 100 ∧ vp_in x3 (ln h (fR h x0 3105)) ∧ lX12_setType_9 G fr lo x0 x2 (aI h (fR h x0 3105) (Int32.toNatClampNeg x3)) h Q) ∧ (¬ x4 = (-1) → tg h x0 = 13 ∧ 1 ≤ fr ∧ 15 ≤ lo ∧ xRr G YX12_checkE (fr - 1) (lo - 15) [rv x0, .int x4] h (fun x9 h8 => xext h h8 → tg h8 x9 = 14 ∧ 1 ≤ fr ∧ 12 ≤ lo ∧ xRr G YX13_own (fr - 1) (lo - 12) [rv x9] h8 (fun x15 h14 => xext h8 h14 → tg h14 x15 = 14 ∧ 1 ≤ fr ∧ 12 ≤ lo ∧ xRi G YX13_isOrdinal (fr - 1) (lo - 12) [rv x15] h14 (fun x21 h20 => xext h14 h20 → ((x21 = 0 → bX12_setType_57 G fr lo x0 x3 x4 x15 h20 Q) ∧ (¬ x21 = 0 → ((x2 = 0 → bX12_setType_70 G fr lo x0 x3 x4 x15 h20 Q) ∧ (¬ x2 = 0 → ((x15 = x2 → bX12_setType_70 G fr lo x0 x3 x4 x15 h20 Q) ∧ (¬ x15 = x2 → bX12_setType_57 G fr lo x0 x3 x4 x15 h20 Q))))))) (fun r h2 => Q (.threw r) h2)) (fun r h2 => Q (.threw r) h2)) (fun r h2 => Q (.threw r) h2)))
set_option maxRecDepth 100000 in
theorem uX12_setType_22 {G : xG} {fr lo : Nat} {x0 : Nat} {x2 : Nat} {x3 : Int32} {x4 : Int32} {h : xH} {Q : Outcome → xH → Prop} (hq : bX12_setType_22 G fr lo x0 x2 x3 x4 h Q) : xP G YX12_setType fr lo 22 [(0, rv x0), (2, rv x2), (3, .int x3), (4, .int x4)] [] h Q := by
  unfold bX12_setType_22 at hq
  refine x_iload 3 dX12_setType_22 rfl ?_
  refine x_iconst (v := (-1)) dX12_setType_24 (by decide) ?_
  refine x_icmp_eq (tgt := 85) dX12_setType_25 (by decide) (fun c1 => ?_) (fun c1 => ?_)
  · replace hq := hq.1 c1
    refine x_aload_n 0 dX12_setType_85 rfl ?_
    obtain ⟨g2, hq⟩ := hq
    refine x_get (v := rv (fR h x0 3105)) fdX12_79 dX12_setType_86 g2 rfl ?_
    refine x_iload_n 2 dX12_setType_89 rfl ?_
    obtain ⟨g3, hq⟩ := hq
    obtain ⟨i4, hq⟩ := hq
    refine x_iald 0 (Or.inl rfl) g3 i4 dX12_setType_90 ?_
    refine x_istore_n (lv' := [(3, .int (aI h (fR h x0 3105) (Int32.toNatClampNeg x3))), (0, rv x0), (2, rv x2), (4, .int x4)]) dX12_setType_91 (by decide) (by first | rfl | (simp [rv_cat, Value.category]; done) | (simp [rv_cat, Value.category]; decide)) ?_
    refine x_goto (tgt := 9) dX12_setType_92 (by decide) ?_
    refine xP.pick (lv' := [(0, rv x0), (2, rv x2), (3, .int (aI h (fR h x0 3105) (Int32.toNatClampNeg x3)))]) [1, 2, 0] rfl ?_
    exact hq
  · replace hq := hq.2 c1
    refine x_aload_n 0 dX12_setType_28 rfl ?_
    refine x_iload 3 dX12_setType_29 rfl ?_
    obtain ⟨g5, hq⟩ := hq
    obtain ⟨g6, g7, hq⟩ := hq
    refine x_callV (Yc := YX12_checkE) (as := [.int x4]) (st := []) q4308 mvX12_checkE g5 rfl dX12_setType_31 (xle (xal1 (rv_cat _) (xal1 rfl xal0)) (by decide)) (xfr g6) (xlo xsw0 (by decide) g7) (xKr hq (fun x9 h8 hq e10 => ?_) (fun _ _ q _ => q))
    replace hq := hq e10
    obtain ⟨g11, hq⟩ := hq
    obtain ⟨g12, g13, hq⟩ := hq
    refine x_callV (Yc := YX13_own) (as := []) (st := []) q4189 mvX13_own g11 rfl dX12_setType_34 (xle (xal1 (rv_cat _) xal0) (by decide)) (xfr g12) (xlo xsw0 (by decide) g13) (xKr hq (fun x15 h14 hq e16 => ?_) (fun _ _ q _ => q))
    replace hq := hq e16
    refine x_astore (lv' := [(5, rv x15), (0, rv x0), (2, rv x2), (3, .int x3), (4, .int x4)]) dX12_setType_37 (by decide) rfl ?_
    refine x_aload 0 dX12_setType_39 rfl ?_
    obtain ⟨g17, hq⟩ := hq
    obtain ⟨g18, g19, hq⟩ := hq
    refine x_callV (Yc := YX13_isOrdinal) (as := []) (st := []) q4185 mvX13_isOrdinal g17 rfl dX12_setType_41 (xle (xal1 (rv_cat _) xal0) (by decide)) (xfr g18) (xlo xsw0 (by decide) g19) (xKi hq (fun x21 h20 hq e22 => ?_) (fun _ _ q _ => q))
    replace hq := hq e22
    refine x_if_eq (tgt := 57) dX12_setType_44 (by decide) (fun c23 => ?_) (fun c23 => ?_)
    · replace hq := hq.1 c23
      refine xP.pick (lv' := [(0, rv x0), (3, .int x3), (4, .int x4), (5, rv x15)]) [1, 3, 4, 0] rfl ?_
      exact uX12_setType_57 hq
    · replace hq := hq.2 c23
      refine x_aload_n 2 dX12_setType_47 rfl ?_
      refine x_ifnull (tgt := 70) dX12_setType_48 (by decide) (fun c24 => ?_) (fun c24 => ?_)
      · replace hq := hq.1 c24
        refine xP.pick (lv' := [(0, rv x0), (3, .int x3), (4, .int x4), (5, rv x15)]) [1, 3, 4, 0] rfl ?_
        exact uX12_setType_70 hq
      · replace hq := hq.2 c24
        refine x_aload 0 dX12_setType_51 rfl ?_
        refine x_aload_n 2 dX12_setType_53 rfl ?_
        refine x_acmp_eq (tgt := 70) dX12_setType_54 (by decide) (fun c25 => ?_) (fun c25 => ?_)
        · replace hq := hq.1 c25
          refine xP.pick (lv' := [(0, rv x0), (3, .int x3), (4, .int x4), (5, rv x15)]) [1, 3, 4, 0] rfl ?_
          exact uX12_setType_70 hq
        · replace hq := hq.2 c25
          refine xP.pick (lv' := [(0, rv x0), (3, .int x3), (4, .int x4), (5, rv x15)]) [1, 3, 4, 0] rfl ?_
          exact uX12_setType_57 hq
set_option maxRecDepth 100000 in
def bX12_setType_9 (G : xG) (fr lo : Nat) (x0 : Nat) (x2 : Nat) (x3 : Int32) (h : xH) (Q : Outcome → xH → Prop) : Prop := ((x3 = (-1) → nx h + 1 ≤ xGN G ∧ us h + 8 ≤ xGU G ∧ (∀ (a4 : Nat) (h5 : xH), a4 = nx h + 1 → h5 = nO h 14 8 → xfresh h a4 → 1 ≤ fr ∧ 14 ≤ lo ∧ xRv G YX13_init (fr - 1) (lo - 14) [rv a4, .int 9] h5 (fun h12 => xext h5 h12 → (∀ h16 : xH, h16 = sR h12 a4 3332 x2 → Q (.returned (some (rv a4))) h16)) (fun r h2 => Q (.threw r) h2))) ∧ (¬ x3 = (-1) → tg h x0 = 13 ∧ tg h (fR h x0 3103) = 100 ∧ vp_in x3 (ln h (fR h x0 3103)) ∧ lX12_setType_22 G fr lo x0 x2 x3 (aI h (fR h x0 3103) (Int32.toNatClampNeg x3)) h Q))
set_option maxRecDepth 100000 in
theorem uX12_setType_9 {G : xG} {fr lo : Nat} {x0 : Nat} {x2 : Nat} {x3 : Int32} {h : xH} {Q : Outcome → xH → Prop} (hq : bX12_setType_9 G fr lo x0 x2 x3 h Q) : xP G YX12_setType fr lo 9 [(0, rv x0), (2, rv x2), (3, .int x3)] [] h Q := by
  unfold bX12_setType_9 at hq
  refine x_iload_n 2 dX12_setType_9 rfl ?_
  refine x_iconst (v := (-1)) dX12_setType_10 (by decide) ?_
  refine x_icmp_eq (tgt := 95) dX12_setType_11 (by decide) (fun c1 => ?_) (fun c1 => ?_)
  · replace hq := hq.1 c1
    obtain ⟨g2, g3, hq⟩ := hq
    obtain ⟨a4, e6⟩ : ∃ y, y = nx h + 1 := ⟨_, rfl⟩
    obtain ⟨h5, e7⟩ : ∃ y, y = nO h 14 8 := ⟨_, rfl⟩
    refine x_new' cdX12_94 dX12_setType_95 g2 g3 e6 e7 (fun f8 => ?_)
    replace hq := hq a4 h5 e6 e7 f8
    have t9 : tg h5 a4 = 14 := by rw [e7, e6]; exact tg_nO
    refine x_dup dX12_setType_98 (rv_cat _) ?_
    refine x_bipush (v := 9) dX12_setType_99 (by decide) ?_
    obtain ⟨g10, g11, hq⟩ := hq
    refine x_callI (Yc := YX13_init) (as := [.int 9]) (st := [rv a4]) q3209 miX13_init (by rw [t9]; decide) rfl dX12_setType_101 (xle (xal1 (rv_cat _) (xal1 rfl xal0)) (by decide)) (xfr g10) (xlo (xsw1 (rv_cat _) xsw0) (by decide) g11) (xKv hq (fun h12 hq e14 => ?_) (fun _ _ q _ => q))
    replace hq := hq e14
    refine x_astore_n (lv' := [(3, rv a4), (0, rv x0), (2, rv x2)]) dX12_setType_104 (by decide) (by first | rfl | (simp [rv_cat, Value.category]; done) | (simp [rv_cat, Value.category]; decide)) ?_
    refine x_aload_n 0 dX12_setType_105 rfl ?_
    refine x_aload_n 2 dX12_setType_106 rfl ?_
    have t15 : tg h12 a4 = 14 := e14.tg t9 (by decide)
    obtain ⟨h16, e17⟩ : ∃ y, y = sR h12 a4 3332 x2 := ⟨_, rfl⟩
    replace hq := hq h16 e17
    refine x_putR fdX12_864 xty_O dX12_setType_107 t15 (Or.inl (by rw [t15]; rfl)) rfl e17 ?_
    refine x_aload_n 0 dX12_setType_110 rfl ?_
    exact x_aret rfl xty_O dX12_setType_111 hq
  · replace hq := hq.2 c1
    refine x_aload_n 0 dX12_setType_14 rfl ?_
    obtain ⟨g18, hq⟩ := hq
    refine x_get (v := rv (fR h x0 3103)) fdX12_73 dX12_setType_15 g18 rfl ?_
    refine x_iload_n 2 dX12_setType_18 rfl ?_
    obtain ⟨g19, hq⟩ := hq
    obtain ⟨i20, hq⟩ := hq
    refine x_iald 0 (Or.inl rfl) g19 i20 dX12_setType_19 ?_
    refine x_istore (lv' := [(4, .int (aI h (fR h x0 3103) (Int32.toNatClampNeg x3))), (0, rv x0), (2, rv x2), (3, .int x3)]) dX12_setType_20 (by decide) rfl ?_
    refine xP.pick (lv' := [(0, rv x0), (2, rv x2), (3, .int x3), (4, .int (aI h (fR h x0 3103) (Int32.toNatClampNeg x3)))]) [1, 2, 3, 0] rfl ?_
    exact hq
set_option maxRecDepth 100000 in
def bX12_setType (G : xG) (fr lo : Nat) (x0 : Nat) (x1 : Int32) (h : xH) (Q : Outcome → xH → Prop) : Prop := tg h x0 = 13 ∧ tg h (fR h x0 3103) = 100 ∧ vp_in x1 (ln h (fR h x0 3103)) ∧ lX12_setType_9 G fr lo x0 0 (aI h (fR h x0 3103) (Int32.toNatClampNeg x1)) h Q
set_option maxRecDepth 100000 in
theorem uX12_setType {G : xG} {fr lo : Nat} {x0 : Nat} {x1 : Int32} {h : xH} {Q : Outcome → xH → Prop} (hq : bX12_setType G fr lo x0 x1 h Q) : xP G YX12_setType fr lo 0 [(0, rv x0), (1, .int x1)] [] h Q := by
  unfold bX12_setType at hq
  refine x_null dX12_setType_0 ?_
  refine x_astore_n (lv' := [(2, rv 0), (0, rv x0), (1, .int x1)]) dX12_setType_1 (by decide) rfl ?_
  refine x_aload_n 1 dX12_setType_2 rfl ?_
  obtain ⟨g1, hq⟩ := hq
  refine x_get (v := rv (fR h x0 3103)) fdX12_73 dX12_setType_3 g1 rfl ?_
  refine x_iload_n 2 dX12_setType_6 rfl ?_
  obtain ⟨g2, hq⟩ := hq
  obtain ⟨i3, hq⟩ := hq
  refine x_iald 0 (Or.inl rfl) g2 i3 dX12_setType_7 ?_
  refine x_istore_n (lv' := [(3, .int (aI h (fR h x0 3103) (Int32.toNatClampNeg x1))), (2, rv 0), (0, rv x0), (1, .int x1)]) dX12_setType_8 (by decide) (by first | rfl | (simp [rv_cat, Value.category]; done) | (simp [rv_cat, Value.category]; decide)) ?_
  refine xP.pick (lv' := [(0, rv x0), (2, rv 0), (3, .int (aI h (fR h x0 3103) (Int32.toNatClampNeg x1)))]) [2, 1, 0] rfl ?_
  exact hq
theorem rX12_setType {G : xG} {fr lo : Nat} {x0 : Nat} {x1 : Int32} {h : xH} {Q : Outcome → xH → Prop} (hq : bX12_setType G fr lo x0 x1 h Q) : xR G YX12_setType fr lo [rv x0, .int x1] h Q := by
  show xP _ _ _ _ _ (lv_args 0 _) _ _ _
  rw [show lv_args 0 [rv x0, .int x1] = [(0, rv x0), (1, .int x1)] from (xla1 (rv_cat _) (xla1 rfl xla0))]
  exact uX12_setType hq
set_option maxRecDepth 100000 in
theorem dX12_callType_0 : decode cX12_callType 0 = .ok (.aload_n 0, 1) := by decide +kernel
set_option maxRecDepth 100000 in
theorem dX12_callType_1 : decode cX12_callType 1 = .ok (.aload_n 0, 1) := by decide +kernel
set_option maxRecDepth 100000 in
theorem dX12_callType_2 : decode cX12_callType 2 = .ok (.getfield 70, 3) := by decide +kernel
set_option maxRecDepth 100000 in
theorem dX12_callType_5 : decode cX12_callType 5 = .ok (.iload_n 1, 1) := by decide +kernel
set_option maxRecDepth 100000 in
theorem dX12_callType_6 : decode cX12_callType 6 = .ok (.iaload, 1) := by decide +kernel
set_option maxRecDepth 100000 in
theorem dX12_callType_7 : decode cX12_callType 7 = .ok (.iconst 5, 1) := by decide +kernel
set_option maxRecDepth 100000 in
theorem dX12_callType_8 : decode cX12_callType 8 = .ok (.invokevirtual 838, 3) := by decide +kernel
set_option maxRecDepth 100000 in
theorem dX12_callType_11 : decode cX12_callType 11 = .ok (.astore_n 2, 1) := by decide +kernel
set_option maxRecDepth 100000 in
theorem dX12_callType_12 : decode cX12_callType 12 = .ok (.aload_n 2, 1) := by decide +kernel
set_option maxRecDepth 100000 in
theorem dX12_callType_13 : decode cX12_callType 13 = .ok (.getfield 635, 3) := by decide +kernel
set_option maxRecDepth 100000 in
theorem dX12_callType_16 : decode cX12_callType 16 = .ok (.ifCond .ne 15, 3) := by decide +kernel
set_option maxRecDepth 100000 in
theorem dX12_callType_19 : decode cX12_callType 19 = .ok (.aload_n 0, 1) := by decide +kernel
set_option maxRecDepth 100000 in
theorem dX12_callType_20 : decode cX12_callType 20 = .ok (.bipush 6, 2) := by decide +kernel
set_option maxRecDepth 100000 in
theorem dX12_callType_22 : decode cX12_callType 22 = .ok (.aload_n 0, 1) := by decide +kernel
set_option maxRecDepth 100000 in
theorem dX12_callType_23 : decode cX12_callType 23 = .ok (.getfield 70, 3) := by decide +kernel
set_option maxRecDepth 100000 in
theorem dX12_callType_26 : decode cX12_callType 26 = .ok (.iload_n 1, 1) := by decide +kernel
set_option maxRecDepth 100000 in
theorem dX12_callType_27 : decode cX12_callType 27 = .ok (.iaload, 1) := by decide +kernel
set_option maxRecDepth 100000 in
theorem dX12_callType_28 : decode cX12_callType 28 = .ok (.invokevirtual 570, 3) := by decide +kernel
set_option maxRecDepth 100000 in
theorem dX12_callType_31 : decode cX12_callType 31 = .ok (.aload_n 0, 1) := by decide +kernel
set_option maxRecDepth 100000 in
theorem dX12_callType_32 : decode cX12_callType 32 = .ok (.getfield 102, 3) := by decide +kernel
set_option maxRecDepth 100000 in
theorem dX12_callType_35 : decode cX12_callType 35 = .ok (.iload_n 1, 1) := by decide +kernel
set_option maxRecDepth 100000 in
theorem dX12_callType_36 : decode cX12_callType 36 = .ok (.aload_n 2, 1) := by decide +kernel
set_option maxRecDepth 100000 in
theorem dX12_callType_37 : decode cX12_callType 37 = .ok (.aastore, 1) := by decide +kernel
set_option maxRecDepth 100000 in
theorem dX12_callType_38 : decode cX12_callType 38 = .ok (.aload_n 2, 1) := by decide +kernel
set_option maxRecDepth 100000 in
theorem dX12_callType_39 : decode cX12_callType 39 = .ok (.getfield 632, 3) := by decide +kernel
set_option maxRecDepth 100000 in
theorem dX12_callType_42 : decode cX12_callType 42 = .ok (.ifCond .le 21, 3) := by decide +kernel
set_option maxRecDepth 100000 in
theorem dX12_callType_45 : decode cX12_callType 45 = .ok (.aload_n 0, 1) := by decide +kernel
set_option maxRecDepth 100000 in
theorem dX12_callType_46 : decode cX12_callType 46 = .ok (.aload_n 0, 1) := by decide +kernel
set_option maxRecDepth 100000 in
theorem dX12_callType_47 : decode cX12_callType 47 = .ok (.getfield 70, 3) := by decide +kernel
set_option maxRecDepth 100000 in
theorem dX12_callType_50 : decode cX12_callType 50 = .ok (.iload_n 1, 1) := by decide +kernel
set_option maxRecDepth 100000 in
theorem dX12_callType_51 : decode cX12_callType 51 = .ok (.iaload, 1) := by decide +kernel
set_option maxRecDepth 100000 in
theorem dX12_callType_52 : decode cX12_callType 52 = .ok (.aload_n 2, 1) := by decide +kernel
set_option maxRecDepth 100000 in
theorem dX12_callType_53 : decode cX12_callType 53 = .ok (.aload_n 0, 1) := by decide +kernel
set_option maxRecDepth 100000 in
theorem dX12_callType_54 : decode cX12_callType 54 = .ok (.getfield 73, 3) := by decide +kernel
set_option maxRecDepth 100000 in
theorem dX12_callType_57 : decode cX12_callType 57 = .ok (.iload_n 1, 1) := by decide +kernel
set_option maxRecDepth 100000 in
theorem dX12_callType_58 : decode cX12_callType 58 = .ok (.iaload, 1) := by decide +kernel
set_option maxRecDepth 100000 in
theorem dX12_callType_59 : decode cX12_callType 59 = .ok (.invokevirtual 1088, 3) := by decide +kernel
set_option maxRecDepth 100000 in
theorem dX12_callType_62 : decode cX12_callType 62 = .ok (.areturn, 1) := by decide +kernel
set_option maxRecDepth 100000 in
theorem dX12_callType_63 : decode cX12_callType 63 = .ok (.iconst 0, 1) := by decide +kernel
set_option maxRecDepth 100000 in
theorem dX12_callType_64 : decode cX12_callType 64 = .ok (.istore_n 3, 1) := by decide +kernel
set_option maxRecDepth 100000 in
theorem dX12_callType_65 : decode cX12_callType 65 = .ok (.aload_n 0, 1) := by decide +kernel
set_option maxRecDepth 100000 in
theorem dX12_callType_66 : decode cX12_callType 66 = .ok (.getfield 73, 3) := by decide +kernel
set_option maxRecDepth 100000 in
theorem dX12_callType_69 : decode cX12_callType 69 = .ok (.iload_n 1, 1) := by decide +kernel
set_option maxRecDepth 100000 in
theorem dX12_callType_70 : decode cX12_callType 70 = .ok (.iaload, 1) := by decide +kernel
set_option maxRecDepth 100000 in
theorem dX12_callType_71 : decode cX12_callType 71 = .ok (.istore 4, 2) := by decide +kernel
set_option maxRecDepth 100000 in
theorem dX12_callType_73 : decode cX12_callType 73 = .ok (.iload 4, 2) := by decide +kernel
set_option maxRecDepth 100000 in
theorem dX12_callType_75 : decode cX12_callType 75 = .ok (.iconst (-1), 1) := by decide +kernel
set_option maxRecDepth 100000 in
theorem dX12_callType_76 : decode cX12_callType 76 = .ok (.if_icmp .eq 18, 3) := by decide +kernel
set_option maxRecDepth 100000 in
theorem dX12_callType_79 : decode cX12_callType 79 = .ok (.iinc 3 1, 3) := by decide +kernel
set_option maxRecDepth 100000 in
theorem dX12_callType_82 : decode cX12_callType 82 = .ok (.aload_n 0, 1) := by decide +kernel
set_option maxRecDepth 100000 in
theorem dX12_callType_83 : decode cX12_callType 83 = .ok (.getfield 79, 3) := by decide +kernel
set_option maxRecDepth 100000 in
theorem dX12_callType_86 : decode cX12_callType 86 = .ok (.iload 4, 2) := by decide +kernel
set_option maxRecDepth 100000 in
theorem dX12_callType_88 : decode cX12_callType 88 = .ok (.iaload, 1) := by decide +kernel
set_option maxRecDepth 100000 in
theorem dX12_callType_89 : decode cX12_callType 89 = .ok (.istore 4, 2) := by decide +kernel
set_option maxRecDepth 100000 in
theorem dX12_callType_91 : decode cX12_callType 91 = .ok (.goto (-18), 3) := by decide +kernel
set_option maxRecDepth 100000 in
theorem dX12_callType_94 : decode cX12_callType 94 = .ok (.iload_n 3, 1) := by decide +kernel
set_option maxRecDepth 100000 in
theorem dX12_callType_95 : decode cX12_callType 95 = .ok (.aload_n 2, 1) := by decide +kernel
set_option maxRecDepth 100000 in
theorem dX12_callType_96 : decode cX12_callType 96 = .ok (.getfield 949, 3) := by decide +kernel
set_option maxRecDepth 100000 in
theorem dX12_callType_99 : decode cX12_callType 99 = .ok (.invokevirtual 554, 3) := by decide +kernel
set_option maxRecDepth 100000 in
theorem dX12_callType_102 : decode cX12_callType 102 = .ok (.if_icmp .eq 15, 3) := by decide +kernel
set_option maxRecDepth 100000 in
theorem dX12_callType_105 : decode cX12_callType 105 = .ok (.aload_n 0, 1) := by decide +kernel
set_option maxRecDepth 100000 in
theorem dX12_callType_106 : decode cX12_callType 106 = .ok (.bipush 9, 2) := by decide +kernel
set_option maxRecDepth 100000 in
theorem dX12_callType_108 : decode cX12_callType 108 = .ok (.aload_n 0, 1) := by decide +kernel
set_option maxRecDepth 100000 in
theorem dX12_callType_109 : decode cX12_callType 109 = .ok (.getfield 70, 3) := by decide +kernel
set_option maxRecDepth 100000 in
theorem dX12_callType_112 : decode cX12_callType 112 = .ok (.iload_n 1, 1) := by decide +kernel
set_option maxRecDepth 100000 in
theorem dX12_callType_113 : decode cX12_callType 113 = .ok (.iaload, 1) := by decide +kernel
set_option maxRecDepth 100000 in
theorem dX12_callType_114 : decode cX12_callType 114 = .ok (.invokevirtual 570, 3) := by decide +kernel
set_option maxRecDepth 100000 in
theorem dX12_callType_117 : decode cX12_callType 117 = .ok (.iconst 0, 1) := by decide +kernel
set_option maxRecDepth 100000 in
theorem dX12_callType_118 : decode cX12_callType 118 = .ok (.istore 4, 2) := by decide +kernel
set_option maxRecDepth 100000 in
theorem dX12_callType_120 : decode cX12_callType 120 = .ok (.aload_n 0, 1) := by decide +kernel
set_option maxRecDepth 100000 in
theorem dX12_callType_121 : decode cX12_callType 121 = .ok (.getfield 73, 3) := by decide +kernel
set_option maxRecDepth 100000 in
theorem dX12_callType_124 : decode cX12_callType 124 = .ok (.iload_n 1, 1) := by decide +kernel
set_option maxRecDepth 100000 in
theorem dX12_callType_125 : decode cX12_callType 125 = .ok (.iaload, 1) := by decide +kernel
set_option maxRecDepth 100000 in
theorem dX12_callType_126 : decode cX12_callType 126 = .ok (.istore 5, 2) := by decide +kernel
set_option maxRecDepth 100000 in
theorem dX12_callType_128 : decode cX12_callType 128 = .ok (.iload 5, 2) := by decide +kernel
set_option maxRecDepth 100000 in
theorem dX12_callType_130 : decode cX12_callType 130 = .ok (.iconst (-1), 1) := by decide +kernel
set_option maxRecDepth 100000 in
theorem dX12_callType_131 : decode cX12_callType 131 = .ok (.if_icmp .eq 36, 3) := by decide +kernel
set_option maxRecDepth 100000 in
theorem dX12_callType_134 : decode cX12_callType 134 = .ok (.aload_n 0, 1) := by decide +kernel
set_option maxRecDepth 100000 in
theorem dX12_callType_135 : decode cX12_callType 135 = .ok (.iload 5, 2) := by decide +kernel
set_option maxRecDepth 100000 in
theorem dX12_callType_137 : decode cX12_callType 137 = .ok (.aload_n 2, 1) := by decide +kernel
set_option maxRecDepth 100000 in
theorem dX12_callType_138 : decode cX12_callType 138 = .ok (.getfield 949, 3) := by decide +kernel
set_option maxRecDepth 100000 in
theorem dX12_callType_141 : decode cX12_callType 141 = .ok (.iload 4, 2) := by decide +kernel
set_option maxRecDepth 100000 in
theorem dX12_callType_143 : decode cX12_callType 143 = .ok (.invokevirtual 556, 3) := by decide +kernel
set_option maxRecDepth 100000 in
theorem dX12_callType_146 : decode cX12_callType 146 = .ok (.checkcast 100, 3) := by decide +kernel
set_option maxRecDepth 100000 in
theorem dX12_callType_149 : decode cX12_callType 149 = .ok (.invokevirtual 1017, 3) := by decide +kernel
set_option maxRecDepth 100000 in
theorem dX12_callType_152 : decode cX12_callType 152 = .ok (.iinc 4 1, 3) := by decide +kernel
set_option maxRecDepth 100000 in
theorem dX12_callType_155 : decode cX12_callType 155 = .ok (.aload_n 0, 1) := by decide +kernel
set_option maxRecDepth 100000 in
theorem dX12_callType_156 : decode cX12_callType 156 = .ok (.getfield 79, 3) := by decide +kernel
set_option maxRecDepth 100000 in
theorem dX12_callType_159 : decode cX12_callType 159 = .ok (.iload 5, 2) := by decide +kernel
set_option maxRecDepth 100000 in
theorem dX12_callType_161 : decode cX12_callType 161 = .ok (.iaload, 1) := by decide +kernel
set_option maxRecDepth 100000 in
theorem dX12_callType_162 : decode cX12_callType 162 = .ok (.istore 5, 2) := by decide +kernel
set_option maxRecDepth 100000 in
theorem dX12_callType_164 : decode cX12_callType 164 = .ok (.goto (-36), 3) := by decide +kernel
set_option maxRecDepth 100000 in
theorem dX12_callType_167 : decode cX12_callType 167 = .ok (.aload_n 2, 1) := by decide +kernel
set_option maxRecDepth 100000 in
theorem dX12_callType_168 : decode cX12_callType 168 = .ok (.getfield 612, 3) := by decide +kernel
set_option maxRecDepth 100000 in
theorem dX12_callType_171 : decode cX12_callType 171 = .ok (.areturn, 1) := by decide +kernel
def lX12_callType_73 (G : xG) (fr lo : Nat) (x0 : Nat) (x1 : Int32) (x2 : Nat) (x3 : Int32) (x4 : Int32) (h : xH) (Q : Outcome → xH → Prop) : Prop := xP G YX12_callType fr lo 73 [(0, rv x0), (1, .int x1), (2, rv x2), (3, .int x3), (4, .int x4)] [] h Q
def lX12_callType_128 (G : xG) (fr lo : Nat) (x0 : Nat) (x2 : Nat) (x4 : Int32) (x5 : Int32) (h : xH) (Q : Outcome → xH → Prop) : Prop := xP G YX12_callType fr lo 128 [(0, rv x0), (2, rv x2), (4, .int x4), (5, .int x5)] [] h Q
set_option maxRecDepth 100000 in
def bX12_callType_128 (G : xG) (fr lo : Nat) (x0 : Nat) (x2 : Nat) (x4 : Int32) (x5 : Int32) (h : xH) (Q : Outcome → xH → Prop) : Prop := ((x5 = (-1) → tg h x2 = 24 ∧ Q (.returned (some (rv (fR h x2 5890)))) h) ∧ (¬ x5 = (-1) → tg h x2 = 24 ∧ tg h (fR h x2 5910) = 29 ∧ 1 ≤ fr ∧ 15 ≤ lo ∧ xRr G YJ2_get (fr - 1) (lo - 15) [rv (fR h x2 5910), .int x4] h (fun x8 h7 => xext h h7 → tg h7 x8 = 24 ∧ tg h7 x0 = 13 ∧ 1 ≤ fr ∧ 16 ≤ lo ∧ xRv G YX12_argument (fr - 1) (lo - 16) [rv x0, .int x5, rv x8] h7 (fun h14 => xext h7 h14 → tg h14 (fR h14 x0 3105) = 100 ∧ vp_in x5 (ln h14 (fR h14 x0 3105)) ∧ lX12_callType_128 G fr lo x0 x2 (x4 + 1) (aI h14 (fR h14 x0 3105) (Int32.toNatClampNeg x5)) h14 Q) (fun r h2 => Q (.threw r) h2)) (fun r h2 => Q (.threw r) h2)))
set_option maxRecDepth 100000 in
theorem uX12_callType_128 {G : xG} {fr lo : Nat} {x0 : Nat} {x2 : Nat} {x4 : Int32} {x5 : Int32} {h : xH} {Q : Outcome → xH → Prop} (hq : bX12_callType_128 G fr lo x0 x2 x4 x5 h Q) : xP G YX12_callType fr lo 128 [(0, rv x0), (2, rv x2), (4, .int x4), (5, .int x5)] [] h Q := by
  unfold bX12_callType_128 at hq
  refine x_iload 3 dX12_callType_128 rfl ?_
  refine x_iconst (v := (-1)) dX12_callType_130 (by decide) ?_
  refine x_icmp_eq (tgt := 167) dX12_callType_131 (by decide) (fun c1 => ?_) (fun c1 => ?_)
  · replace hq := hq.1 c1
    refine x_aload_n 1 dX12_callType_167 rfl ?_
    obtain ⟨g2, hq⟩ := hq
    refine x_get (v := rv (fR h x2 5890)) fdX12_612 dX12_callType_168 g2 rfl ?_
    exact x_aret rfl xty_O dX12_callType_171 hq
  · replace hq := hq.2 c1
    refine x_aload_n 0 dX12_callType_134 rfl ?_
    refine x_iload 3 dX12_callType_135 rfl ?_
    refine x_aload_n 1 dX12_callType_137 rfl ?_
    obtain ⟨g3, hq⟩ := hq
    refine x_get (v := rv (fR h x2 5910)) fdX12_949 dX12_callType_138 g3 rfl ?_
    refine x_iload 2 dX12_callType_141 rfl ?_
    obtain ⟨g4, hq⟩ := hq
    obtain ⟨g5, g6, hq⟩ := hq
    refine x_callV (Yc := YJ2_get) (as := [.int x4]) (st := [.int x5, rv x0]) q4109 mvJ2_get g4 rfl dX12_callType_143 (xle (xal1 (rv_cat _) (xal1 rfl xal0)) (by decide)) (xfr g5) (xlo (xsw1 rfl (xsw1 (rv_cat _) xsw0)) (by decide) g6) (xKr hq (fun x8 h7 hq e9 => ?_) (fun _ _ q _ => q))
    replace hq := hq e9
    obtain ⟨g10, hq⟩ := hq
    refine x_cast (ci := 23) (by decide) rfl q3206 g10 dX12_callType_146 ?_
    obtain ⟨g11, hq⟩ := hq
    obtain ⟨g12, g13, hq⟩ := hq
    refine x_callV (Yc := YX12_argument) (as := [.int x5, rv x8]) (st := []) q4356 mvX12_argument g11 rfl dX12_callType_149 (xle (xal1 (rv_cat _) (xal1 rfl (xal1 (rv_cat _) xal0))) (by decide)) (xfr g12) (xlo xsw0 (by decide) g13) (xKv hq (fun h14 hq e16 => ?_) (fun _ _ q _ => q))
    replace hq := hq e16
    refine x_iinc (lv' := [(4, .int (x4 + 1)), (0, rv x0), (2, rv x2), (5, .int x5)]) 2 dX12_callType_152 rfl (by decide) rfl ?_
    refine x_aload_n 1 dX12_callType_155 rfl ?_
    have t17 : tg h14 x0 = 13 := e16.tg g11 (by decide)
    refine x_get (v := rv (fR h14 x0 3105)) fdX12_79 dX12_callType_156 t17 rfl ?_
    refine x_iload 3 dX12_callType_159 rfl ?_
    obtain ⟨g18, hq⟩ := hq
    obtain ⟨i19, hq⟩ := hq
    refine x_iald 0 (Or.inl rfl) g18 i19 dX12_callType_161 ?_
    refine x_istore (lv' := [(5, .int (aI h14 (fR h14 x0 3105) (Int32.toNatClampNeg x5))), (4, .int (x4 + 1)), (0, rv x0), (2, rv x2)]) dX12_callType_162 (by decide) rfl ?_
    refine x_goto (tgt := 128) dX12_callType_164 (by decide) ?_
    refine xP.pick (lv' := [(0, rv x0), (2, rv x2), (4, .int (x4 + 1)), (5, .int (aI h14 (fR h14 x0 3105) (Int32.toNatClampNeg x5)))]) [2, 3, 1, 0] rfl ?_
    exact hq
set_option maxRecDepth 100000 in
def bX12_callType_117 (G : xG) (fr lo : Nat) (x0 : Nat) (x1 : Int32) (x2 : Nat) (h : xH) (Q : Outcome → xH → Prop) : Prop := tg h x0 = 13 ∧ tg h (fR h x0 3103) = 100 ∧ vp_in x1 (ln h (fR h x0 3103)) ∧ lX12_callType_128 G fr lo x0 x2 0 (aI h (fR h x0 3103) (Int32.toNatClampNeg x1)) h Q
set_option maxRecDepth 100000 in
theorem uX12_callType_117 {G : xG} {fr lo : Nat} {x0 : Nat} {x1 : Int32} {x2 : Nat} {h : xH} {Q : Outcome → xH → Prop} (hq : bX12_callType_117 G fr lo x0 x1 x2 h Q) : xP G YX12_callType fr lo 117 [(0, rv x0), (1, .int x1), (2, rv x2)] [] h Q := by
  unfold bX12_callType_117 at hq
  refine x_iconst (v := 0) dX12_callType_117 (by decide) ?_
  refine x_istore (lv' := [(4, .int 0), (0, rv x0), (1, .int x1), (2, rv x2)]) dX12_callType_118 (by decide) rfl ?_
  refine x_aload_n 1 dX12_callType_120 rfl ?_
  obtain ⟨g1, hq⟩ := hq
  refine x_get (v := rv (fR h x0 3103)) fdX12_73 dX12_callType_121 g1 rfl ?_
  refine x_iload_n 2 dX12_callType_124 rfl ?_
  obtain ⟨g2, hq⟩ := hq
  obtain ⟨i3, hq⟩ := hq
  refine x_iald 0 (Or.inl rfl) g2 i3 dX12_callType_125 ?_
  refine x_istore (lv' := [(5, .int (aI h (fR h x0 3103) (Int32.toNatClampNeg x1))), (4, .int 0), (0, rv x0), (1, .int x1), (2, rv x2)]) dX12_callType_126 (by decide) rfl ?_
  refine xP.pick (lv' := [(0, rv x0), (2, rv x2), (4, .int 0), (5, .int (aI h (fR h x0 3103) (Int32.toNatClampNeg x1)))]) [2, 4, 1, 0] rfl ?_
  exact hq
set_option maxRecDepth 100000 in
def bX12_callType_73 (G : xG) (fr lo : Nat) (x0 : Nat) (x1 : Int32) (x2 : Nat) (x3 : Int32) (x4 : Int32) (h : xH) (Q : Outcome → xH → Prop) : Prop := ((x4 = (-1) → tg h x2 = 24 ∧ tg h (fR h x2 5910) = 29 ∧ 1 ≤ fr ∧ 13 ≤ lo ∧ xRi G YJ2_size (fr - 1) (lo - 13) [rv (fR h x2 5910)] h (fun x7 h6 => xext h h6 → ((x3 = x7 → bX12_callType_117 G fr lo x0 x1 x2 h6 Q) ∧ (¬ x3 = x7 → tg h6 x0 = 13 ∧ tg h6 (fR h6 x0 3102) = 100 ∧ vp_in x1 (ln h6 (fR h6 x0 3102)) ∧ 1 ≤ fr ∧ 14 ≤ lo ∧ xRv G YX12_refuse (fr - 1) (lo - 14) [rv x0, .int 9, .int (aI h6 (fR h6 x0 3102) (Int32.toNatClampNeg x1))] h6 (fun h15 => xext h6 h15 → bX12_callType_117 G fr lo x0 x1 x2 h15 Q) (fun r h2 => Q (.threw r) h2)))) (fun r h2 => Q (.threw r) h2)) ∧ (¬ x4 = (-1) → tg h x0 = 13 ∧ tg h (fR h x0 3105) = 100 ∧ vp_in x4 (ln h (fR h x0 3105)) ∧ lX12_callType_73 G fr lo x0 x1 x2 (x3 + 1) (aI h (fR h x0 3105) (Int32.toNatClampNeg x4)) h Q))
set_option maxRecDepth 100000 in
theorem uX12_callType_73 {G : xG} {fr lo : Nat} {x0 : Nat} {x1 : Int32} {x2 : Nat} {x3 : Int32} {x4 : Int32} {h : xH} {Q : Outcome → xH → Prop} (hq : bX12_callType_73 G fr lo x0 x1 x2 x3 x4 h Q) : xP G YX12_callType fr lo 73 [(0, rv x0), (1, .int x1), (2, rv x2), (3, .int x3), (4, .int x4)] [] h Q := by
  unfold bX12_callType_73 at hq
  refine x_iload 4 dX12_callType_73 rfl ?_
  refine x_iconst (v := (-1)) dX12_callType_75 (by decide) ?_
  refine x_icmp_eq (tgt := 94) dX12_callType_76 (by decide) (fun c1 => ?_) (fun c1 => ?_)
  · replace hq := hq.1 c1
    refine x_iload_n 3 dX12_callType_94 rfl ?_
    refine x_aload_n 2 dX12_callType_95 rfl ?_
    obtain ⟨g2, hq⟩ := hq
    refine x_get (v := rv (fR h x2 5910)) fdX12_949 dX12_callType_96 g2 rfl ?_
    obtain ⟨g3, hq⟩ := hq
    obtain ⟨g4, g5, hq⟩ := hq
    refine x_callV (Yc := YJ2_size) (as := []) (st := [.int x3]) q4067 mvJ2_size g3 rfl dX12_callType_99 (xle (xal1 (rv_cat _) xal0) (by decide)) (xfr g4) (xlo (xsw1 rfl xsw0) (by decide) g5) (xKi hq (fun x7 h6 hq e8 => ?_) (fun _ _ q _ => q))
    replace hq := hq e8
    refine x_icmp_eq (tgt := 117) dX12_callType_102 (by decide) (fun c9 => ?_) (fun c9 => ?_)
    · replace hq := hq.1 c9
      refine xP.pick (lv' := [(0, rv x0), (1, .int x1), (2, rv x2)]) [0, 1, 2] rfl ?_
      exact uX12_callType_117 hq
    · replace hq := hq.2 c9
      refine x_aload_n 0 dX12_callType_105 rfl ?_
      refine x_bipush (v := 9) dX12_callType_106 (by decide) ?_
      refine x_aload_n 0 dX12_callType_108 rfl ?_
      obtain ⟨g10, hq⟩ := hq
      refine x_get (v := rv (fR h6 x0 3102)) fdX12_70 dX12_callType_109 g10 rfl ?_
      refine x_iload_n 1 dX12_callType_112 rfl ?_
      obtain ⟨g11, hq⟩ := hq
      obtain ⟨i12, hq⟩ := hq
      refine x_iald 0 (Or.inl rfl) g11 i12 dX12_callType_113 ?_
      obtain ⟨g13, g14, hq⟩ := hq
      refine x_callV (Yc := YX12_refuse) (as := [.int 9, .int (aI h6 (fR h6 x0 3102) (Int32.toNatClampNeg x1))]) (st := []) q4095 mvX12_refuse g10 rfl dX12_callType_114 (xle (xal1 (rv_cat _) (xal1 rfl (xal1 rfl xal0))) (by decide)) (xfr g13) (xlo xsw0 (by decide) g14) (xKv hq (fun h15 hq e17 => ?_) (fun _ _ q _ => q))
      replace hq := hq e17
      refine xP.pick (lv' := [(0, rv x0), (1, .int x1), (2, rv x2)]) [0, 1, 2] rfl ?_
      exact uX12_callType_117 hq
  · replace hq := hq.2 c1
    refine x_iinc (lv' := [(3, .int (x3 + 1)), (0, rv x0), (1, .int x1), (2, rv x2), (4, .int x4)]) 3 dX12_callType_79 rfl (by decide) (by first | rfl | (simp [rv_cat, Value.category]; done) | (simp [rv_cat, Value.category]; decide)) ?_
    refine x_aload_n 1 dX12_callType_82 rfl ?_
    obtain ⟨g18, hq⟩ := hq
    refine x_get (v := rv (fR h x0 3105)) fdX12_79 dX12_callType_83 g18 rfl ?_
    refine x_iload 4 dX12_callType_86 rfl ?_
    obtain ⟨g19, hq⟩ := hq
    obtain ⟨i20, hq⟩ := hq
    refine x_iald 0 (Or.inl rfl) g19 i20 dX12_callType_88 ?_
    refine x_istore (lv' := [(4, .int (aI h (fR h x0 3105) (Int32.toNatClampNeg x4))), (3, .int (x3 + 1)), (0, rv x0), (1, .int x1), (2, rv x2)]) dX12_callType_89 (by decide) rfl ?_
    refine x_goto (tgt := 73) dX12_callType_91 (by decide) ?_
    refine xP.pick (lv' := [(0, rv x0), (1, .int x1), (2, rv x2), (3, .int (x3 + 1)), (4, .int (aI h (fR h x0 3105) (Int32.toNatClampNeg x4)))]) [2, 3, 4, 1, 0] rfl ?_
    exact hq
set_option maxRecDepth 100000 in
def bX12_callType_31 (G : xG) (fr lo : Nat) (x0 : Nat) (x1 : Int32) (x2 : Nat) (h : xH) (Q : Outcome → xH → Prop) : Prop := tg h x0 = 13 ∧ tg h (fR h x0 3114) = 109 ∧ tg h x2 = 24 ∧ vp_in x1 (ln h (fR h x0 3114)) ∧ (∀ h5 : xH, h5 = tR h (fR h x0 3114) (Int32.toNatClampNeg x1) x2 → (((fI h5 x2 5903) ≤ 0 → tg h5 (fR h5 x0 3103) = 100 ∧ vp_in x1 (ln h5 (fR h5 x0 3103)) ∧ lX12_callType_73 G fr lo x0 x1 x2 0 (aI h5 (fR h5 x0 3103) (Int32.toNatClampNeg x1)) h5 Q) ∧ (¬ (fI h5 x2 5903) ≤ 0 → tg h5 (fR h5 x0 3102) = 100 ∧ vp_in x1 (ln h5 (fR h5 x0 3102)) ∧ tg h5 (fR h5 x0 3103) = 100 ∧ vp_in x1 (ln h5 (fR h5 x0 3103)) ∧ 1 ≤ fr ∧ 19 ≤ lo ∧ xRr G YX12_functionThere (fr - 1) (lo - 19) [rv x0, .int (aI h5 (fR h5 x0 3102) (Int32.toNatClampNeg x1)), rv x2, .int (aI h5 (fR h5 x0 3103) (Int32.toNatClampNeg x1))] h5 (fun x20 h19 => xext h5 h19 → Q (.returned (some (rv x20))) h19) (fun r h2 => Q (.threw r) h2))))
set_option maxRecDepth 100000 in
theorem uX12_callType_31 {G : xG} {fr lo : Nat} {x0 : Nat} {x1 : Int32} {x2 : Nat} {h : xH} {Q : Outcome → xH → Prop} (hq : bX12_callType_31 G fr lo x0 x1 x2 h Q) : xP G YX12_callType fr lo 31 [(0, rv x0), (1, .int x1), (2, rv x2)] [] h Q := by
  unfold bX12_callType_31 at hq
  refine x_aload_n 0 dX12_callType_31 rfl ?_
  obtain ⟨g1, hq⟩ := hq
  refine x_get (v := rv (fR h x0 3114)) fdX12_102 dX12_callType_32 g1 rfl ?_
  refine x_iload_n 1 dX12_callType_35 rfl ?_
  refine x_aload_n 2 dX12_callType_36 rfl ?_
  obtain ⟨g2, hq⟩ := hq
  obtain ⟨g3, hq⟩ := hq
  obtain ⟨i4, hq⟩ := hq
  obtain ⟨h5, e6⟩ : ∃ y, y = tR h (fR h x0 3114) (Int32.toNatClampNeg x1) x2 := ⟨_, rfl⟩
  replace hq := hq h5 e6
  refine x_aast 9 23 as_9_23 g2 (Or.inl (by rw [g2]; rfl)) g3 i4 dX12_callType_37 e6 ?_
  refine x_aload_n 2 dX12_callType_38 rfl ?_
  have t7 : tg h5 x2 = 24 := by rw [e6]; exact g3
  refine x_get (v := .int (fI h5 x2 5903)) fdX12_632 dX12_callType_39 t7 rfl ?_
  refine x_if_le (tgt := 63) dX12_callType_42 (by decide) (fun c8 => ?_) (fun c8 => ?_)
  · replace hq := hq.1 c8
    refine x_iconst (v := 0) dX12_callType_63 (by decide) ?_
    refine x_istore_n (lv' := [(3, .int 0), (0, rv x0), (1, .int x1), (2, rv x2)]) dX12_callType_64 (by decide) (by first | rfl | (simp [rv_cat, Value.category]; done) | (simp [rv_cat, Value.category]; decide)) ?_
    refine x_aload_n 1 dX12_callType_65 rfl ?_
    have t9 : tg h5 x0 = 13 := by rw [e6]; exact g1
    refine x_get (v := rv (fR h5 x0 3103)) fdX12_73 dX12_callType_66 t9 rfl ?_
    refine x_iload_n 2 dX12_callType_69 rfl ?_
    obtain ⟨g10, hq⟩ := hq
    obtain ⟨i11, hq⟩ := hq
    refine x_iald 0 (Or.inl rfl) g10 i11 dX12_callType_70 ?_
    refine x_istore (lv' := [(4, .int (aI h5 (fR h5 x0 3103) (Int32.toNatClampNeg x1))), (3, .int 0), (0, rv x0), (1, .int x1), (2, rv x2)]) dX12_callType_71 (by decide) rfl ?_
    refine xP.pick (lv' := [(0, rv x0), (1, .int x1), (2, rv x2), (3, .int 0), (4, .int (aI h5 (fR h5 x0 3103) (Int32.toNatClampNeg x1)))]) [2, 3, 4, 1, 0] rfl ?_
    exact hq
  · replace hq := hq.2 c8
    refine x_aload_n 0 dX12_callType_45 rfl ?_
    refine x_aload_n 0 dX12_callType_46 rfl ?_
    have t12 : tg h5 x0 = 13 := by rw [e6]; exact g1
    refine x_get (v := rv (fR h5 x0 3102)) fdX12_70 dX12_callType_47 t12 rfl ?_
    refine x_iload_n 1 dX12_callType_50 rfl ?_
    obtain ⟨g13, hq⟩ := hq
    obtain ⟨i14, hq⟩ := hq
    refine x_iald 0 (Or.inl rfl) g13 i14 dX12_callType_51 ?_
    refine x_aload_n 2 dX12_callType_52 rfl ?_
    refine x_aload_n 0 dX12_callType_53 rfl ?_
    refine x_get (v := rv (fR h5 x0 3103)) fdX12_73 dX12_callType_54 t12 rfl ?_
    refine x_iload_n 1 dX12_callType_57 rfl ?_
    obtain ⟨g15, hq⟩ := hq
    obtain ⟨i16, hq⟩ := hq
    refine x_iald 0 (Or.inl rfl) g15 i16 dX12_callType_58 ?_
    obtain ⟨g17, g18, hq⟩ := hq
    refine x_callV (Yc := YX12_functionThere) (as := [.int (aI h5 (fR h5 x0 3102) (Int32.toNatClampNeg x1)), rv x2, .int (aI h5 (fR h5 x0 3103) (Int32.toNatClampNeg x1))]) (st := []) q4336 mvX12_functionThere t12 rfl dX12_callType_59 (xle (xal1 (rv_cat _) (xal1 rfl (xal1 (rv_cat _) (xal1 rfl xal0)))) (by decide)) (xfr g17) (xlo xsw0 (by decide) g18) (xKr hq (fun x20 h19 hq e21 => ?_) (fun _ _ q _ => q))
    replace hq := hq e21
    exact x_aret rfl xty_O dX12_callType_62 hq
set_option maxRecDepth 100000 in
def bX12_callType (G : xG) (fr lo : Nat) (x0 : Nat) (x1 : Int32) (h : xH) (Q : Outcome → xH → Prop) : Prop := tg h x0 = 13 ∧ tg h (fR h x0 3102) = 100 ∧ vp_in x1 (ln h (fR h x0 3102)) ∧ 1 ≤ fr ∧ 15 ≤ lo ∧ xRr G YX12_findOf (fr - 1) (lo - 15) [rv x0, .int (aI h (fR h x0 3102) (Int32.toNatClampNeg x1)), .int 5] h (fun x7 h6 => xext h h6 → tg h6 x7 = 24 ∧ ((¬ (fI h6 x7 5905) = 0 → bX12_callType_31 G fr lo x0 x1 x7 h6 Q) ∧ ((fI h6 x7 5905) = 0 → tg h6 (fR h6 x0 3102) = 100 ∧ vp_in x1 (ln h6 (fR h6 x0 3102)) ∧ 1 ≤ fr ∧ 14 ≤ lo ∧ xRv G YX12_refuse (fr - 1) (lo - 14) [rv x0, .int 6, .int (aI h6 (fR h6 x0 3102) (Int32.toNatClampNeg x1))] h6 (fun h16 => xext h6 h16 → bX12_callType_31 G fr lo x0 x1 x7 h16 Q) (fun r h2 => Q (.threw r) h2)))) (fun r h2 => Q (.threw r) h2)
set_option maxRecDepth 100000 in
theorem uX12_callType {G : xG} {fr lo : Nat} {x0 : Nat} {x1 : Int32} {h : xH} {Q : Outcome → xH → Prop} (hq : bX12_callType G fr lo x0 x1 h Q) : xP G YX12_callType fr lo 0 [(0, rv x0), (1, .int x1)] [] h Q := by
  unfold bX12_callType at hq
  refine x_aload_n 0 dX12_callType_0 rfl ?_
  refine x_aload_n 0 dX12_callType_1 rfl ?_
  obtain ⟨g1, hq⟩ := hq
  refine x_get (v := rv (fR h x0 3102)) fdX12_70 dX12_callType_2 g1 rfl ?_
  refine x_iload_n 1 dX12_callType_5 rfl ?_
  obtain ⟨g2, hq⟩ := hq
  obtain ⟨i3, hq⟩ := hq
  refine x_iald 0 (Or.inl rfl) g2 i3 dX12_callType_6 ?_
  refine x_iconst (v := 5) dX12_callType_7 (by decide) ?_
  obtain ⟨g4, g5, hq⟩ := hq
  refine x_callV (Yc := YX12_findOf) (as := [.int (aI h (fR h x0 3102) (Int32.toNatClampNeg x1)), .int 5]) (st := []) q4157 mvX12_findOf g1 rfl dX12_callType_8 (xle (xal1 (rv_cat _) (xal1 rfl (xal1 rfl xal0))) (by decide)) (xfr g4) (xlo xsw0 (by decide) g5) (xKr hq (fun x7 h6 hq e8 => ?_) (fun _ _ q _ => q))
  replace hq := hq e8
  refine x_astore_n (lv' := [(2, rv x7), (0, rv x0), (1, .int x1)]) dX12_callType_11 (by decide) rfl ?_
  refine x_aload_n 0 dX12_callType_12 rfl ?_
  obtain ⟨g9, hq⟩ := hq
  refine x_get (v := .int (fI h6 x7 5905)) fdX12_635 dX12_callType_13 g9 rfl ?_
  refine x_if_ne (tgt := 31) dX12_callType_16 (by decide) (fun c10 => ?_) (fun c10 => ?_)
  · replace hq := hq.1 c10
    refine xP.pick (lv' := [(0, rv x0), (1, .int x1), (2, rv x7)]) [1, 2, 0] rfl ?_
    exact uX12_callType_31 hq
  · replace hq := hq.2 c10
    refine x_aload_n 1 dX12_callType_19 rfl ?_
    refine x_bipush (v := 6) dX12_callType_20 (by decide) ?_
    refine x_aload_n 1 dX12_callType_22 rfl ?_
    have t11 : tg h6 x0 = 13 := e8.tg g1 (by decide)
    refine x_get (v := rv (fR h6 x0 3102)) fdX12_70 dX12_callType_23 t11 rfl ?_
    refine x_iload_n 2 dX12_callType_26 rfl ?_
    obtain ⟨g12, hq⟩ := hq
    obtain ⟨i13, hq⟩ := hq
    refine x_iald 0 (Or.inl rfl) g12 i13 dX12_callType_27 ?_
    obtain ⟨g14, g15, hq⟩ := hq
    refine x_callV (Yc := YX12_refuse) (as := [.int 6, .int (aI h6 (fR h6 x0 3102) (Int32.toNatClampNeg x1))]) (st := []) q4095 mvX12_refuse t11 rfl dX12_callType_28 (xle (xal1 (rv_cat _) (xal1 rfl (xal1 rfl xal0))) (by decide)) (xfr g14) (xlo xsw0 (by decide) g15) (xKv hq (fun h16 hq e18 => ?_) (fun _ _ q _ => q))
    replace hq := hq e18
    refine xP.pick (lv' := [(0, rv x0), (1, .int x1), (2, rv x7)]) [1, 2, 0] rfl ?_
    exact uX12_callType_31 hq
theorem rX12_callType {G : xG} {fr lo : Nat} {x0 : Nat} {x1 : Int32} {h : xH} {Q : Outcome → xH → Prop} (hq : bX12_callType G fr lo x0 x1 h Q) : xR G YX12_callType fr lo [rv x0, .int x1] h Q := by
  show xP _ _ _ _ _ (lv_args 0 _) _ _ _
  rw [show lv_args 0 [rv x0, .int x1] = [(0, rv x0), (1, .int x1)] from (xla1 (rv_cat _) (xla1 rfl xla0))]
  exact uX12_callType hq
set_option maxRecDepth 100000 in
theorem dX12_functionThere_0 : decode cX12_functionThere 0 = .ok (.aload_n 2, 1) := by decide +kernel
set_option maxRecDepth 100000 in
theorem dX12_functionThere_1 : decode cX12_functionThere 1 = .ok (.getfield 632, 3) := by decide +kernel
set_option maxRecDepth 100000 in
theorem dX12_functionThere_4 : decode cX12_functionThere 4 = .ok (.bipush 21, 2) := by decide +kernel
set_option maxRecDepth 100000 in
theorem dX12_functionThere_6 : decode cX12_functionThere 6 = .ok (.if_icmp .lt 7, 3) := by decide +kernel
set_option maxRecDepth 100000 in
theorem dX12_functionThere_9 : decode cX12_functionThere 9 = .ok (.iconst 1, 1) := by decide +kernel
set_option maxRecDepth 100000 in
theorem dX12_functionThere_10 : decode cX12_functionThere 10 = .ok (.goto 4, 3) := by decide +kernel
set_option maxRecDepth 100000 in
theorem dX12_functionThere_13 : decode cX12_functionThere 13 = .ok (.iconst 0, 1) := by decide +kernel
set_option maxRecDepth 100000 in
theorem dX12_functionThere_14 : decode cX12_functionThere 14 = .ok (.istore 4, 2) := by decide +kernel
set_option maxRecDepth 100000 in
theorem dX12_functionThere_16 : decode cX12_functionThere 16 = .ok (.iload_n 3, 1) := by decide +kernel
set_option maxRecDepth 100000 in
theorem dX12_functionThere_17 : decode cX12_functionThere 17 = .ok (.iconst (-1), 1) := by decide +kernel
set_option maxRecDepth 100000 in
theorem dX12_functionThere_18 : decode cX12_functionThere 18 = .ok (.if_icmp .ne 8, 3) := by decide +kernel
set_option maxRecDepth 100000 in
theorem dX12_functionThere_21 : decode cX12_functionThere 21 = .ok (.iload 4, 2) := by decide +kernel
set_option maxRecDepth 100000 in
theorem dX12_functionThere_23 : decode cX12_functionThere 23 = .ok (.ifCond .eq 18, 3) := by decide +kernel
set_option maxRecDepth 100000 in
theorem dX12_functionThere_26 : decode cX12_functionThere 26 = .ok (.iload_n 3, 1) := by decide +kernel
set_option maxRecDepth 100000 in
theorem dX12_functionThere_27 : decode cX12_functionThere 27 = .ok (.iconst (-1), 1) := by decide +kernel
set_option maxRecDepth 100000 in
theorem dX12_functionThere_28 : decode cX12_functionThere 28 = .ok (.if_icmp .eq 20, 3) := by decide +kernel
set_option maxRecDepth 100000 in
theorem dX12_functionThere_31 : decode cX12_functionThere 31 = .ok (.aload_n 0, 1) := by decide +kernel
set_option maxRecDepth 100000 in
theorem dX12_functionThere_32 : decode cX12_functionThere 32 = .ok (.getfield 79, 3) := by decide +kernel
set_option maxRecDepth 100000 in
theorem dX12_functionThere_35 : decode cX12_functionThere 35 = .ok (.iload_n 3, 1) := by decide +kernel
set_option maxRecDepth 100000 in
theorem dX12_functionThere_36 : decode cX12_functionThere 36 = .ok (.iaload, 1) := by decide +kernel
set_option maxRecDepth 100000 in
theorem dX12_functionThere_37 : decode cX12_functionThere 37 = .ok (.iconst (-1), 1) := by decide +kernel
set_option maxRecDepth 100000 in
theorem dX12_functionThere_38 : decode cX12_functionThere 38 = .ok (.if_icmp .eq 10, 3) := by decide +kernel
set_option maxRecDepth 100000 in
theorem dX12_functionThere_41 : decode cX12_functionThere 41 = .ok (.aload_n 0, 1) := by decide +kernel
set_option maxRecDepth 100000 in
theorem dX12_functionThere_42 : decode cX12_functionThere 42 = .ok (.bipush 9, 2) := by decide +kernel
set_option maxRecDepth 100000 in
theorem dX12_functionThere_44 : decode cX12_functionThere 44 = .ok (.iload_n 1, 1) := by decide +kernel
set_option maxRecDepth 100000 in
theorem dX12_functionThere_45 : decode cX12_functionThere 45 = .ok (.invokevirtual 570, 3) := by decide +kernel
set_option maxRecDepth 100000 in
theorem dX12_functionThere_48 : decode cX12_functionThere 48 = .ok (.iload 4, 2) := by decide +kernel
set_option maxRecDepth 100000 in
theorem dX12_functionThere_50 : decode cX12_functionThere 50 = .ok (.ifCond .eq 68, 3) := by decide +kernel
set_option maxRecDepth 100000 in
theorem dX12_functionThere_53 : decode cX12_functionThere 53 = .ok (.iload_n 3, 1) := by decide +kernel
set_option maxRecDepth 100000 in
theorem dX12_functionThere_54 : decode cX12_functionThere 54 = .ok (.iconst (-1), 1) := by decide +kernel
set_option maxRecDepth 100000 in
theorem dX12_functionThere_55 : decode cX12_functionThere 55 = .ok (.if_icmp .ne 19, 3) := by decide +kernel
set_option maxRecDepth 100000 in
theorem dX12_functionThere_58 : decode cX12_functionThere 58 = .ok (.aload_n 0, 1) := by decide +kernel
set_option maxRecDepth 100000 in
theorem dX12_functionThere_59 : decode cX12_functionThere 59 = .ok (.getfield 727, 3) := by decide +kernel
set_option maxRecDepth 100000 in
theorem dX12_functionThere_62 : decode cX12_functionThere 62 = .ok (.ifnonnull 51, 3) := by decide +kernel
set_option maxRecDepth 100000 in
theorem dX12_functionThere_65 : decode cX12_functionThere 65 = .ok (.aload_n 0, 1) := by decide +kernel
set_option maxRecDepth 100000 in
theorem dX12_functionThere_66 : decode cX12_functionThere 66 = .ok (.iconst 4, 1) := by decide +kernel
set_option maxRecDepth 100000 in
theorem dX12_functionThere_67 : decode cX12_functionThere 67 = .ok (.iload_n 1, 1) := by decide +kernel
set_option maxRecDepth 100000 in
theorem dX12_functionThere_68 : decode cX12_functionThere 68 = .ok (.invokevirtual 570, 3) := by decide +kernel
set_option maxRecDepth 100000 in
theorem dX12_functionThere_71 : decode cX12_functionThere 71 = .ok (.goto 42, 3) := by decide +kernel
set_option maxRecDepth 100000 in
theorem dX12_functionThere_74 : decode cX12_functionThere 74 = .ok (.aload_n 0, 1) := by decide +kernel
set_option maxRecDepth 100000 in
theorem dX12_functionThere_75 : decode cX12_functionThere 75 = .ok (.iload_n 3, 1) := by decide +kernel
set_option maxRecDepth 100000 in
theorem dX12_functionThere_76 : decode cX12_functionThere 76 = .ok (.invokevirtual 1037, 3) := by decide +kernel
set_option maxRecDepth 100000 in
theorem dX12_functionThere_79 : decode cX12_functionThere 79 = .ok (.astore 5, 2) := by decide +kernel
set_option maxRecDepth 100000 in
theorem dX12_functionThere_81 : decode cX12_functionThere 81 = .ok (.aload_n 2, 1) := by decide +kernel
set_option maxRecDepth 100000 in
theorem dX12_functionThere_82 : decode cX12_functionThere 82 = .ok (.getfield 632, 3) := by decide +kernel
set_option maxRecDepth 100000 in
theorem dX12_functionThere_85 : decode cX12_functionThere 85 = .ok (.bipush 22, 2) := by decide +kernel
set_option maxRecDepth 100000 in
theorem dX12_functionThere_87 : decode cX12_functionThere 87 = .ok (.if_icmp .ne 26, 3) := by decide +kernel
set_option maxRecDepth 100000 in
theorem dX12_functionThere_90 : decode cX12_functionThere 90 = .ok (.aload 5, 2) := by decide +kernel
set_option maxRecDepth 100000 in
theorem dX12_functionThere_92 : decode cX12_functionThere 92 = .ok (.getfield 612, 3) := by decide +kernel
set_option maxRecDepth 100000 in
theorem dX12_functionThere_95 : decode cX12_functionThere 95 = .ok (.invokevirtual 1040, 3) := by decide +kernel
set_option maxRecDepth 100000 in
theorem dX12_functionThere_98 : decode cX12_functionThere 98 = .ok (.ifCond .ne 15, 3) := by decide +kernel
set_option maxRecDepth 100000 in
theorem dX12_functionThere_101 : decode cX12_functionThere 101 = .ok (.aload_n 0, 1) := by decide +kernel
set_option maxRecDepth 100000 in
theorem dX12_functionThere_102 : decode cX12_functionThere 102 = .ok (.bipush 7, 2) := by decide +kernel
set_option maxRecDepth 100000 in
theorem dX12_functionThere_104 : decode cX12_functionThere 104 = .ok (.aload_n 0, 1) := by decide +kernel
set_option maxRecDepth 100000 in
theorem dX12_functionThere_105 : decode cX12_functionThere 105 = .ok (.getfield 70, 3) := by decide +kernel
set_option maxRecDepth 100000 in
theorem dX12_functionThere_108 : decode cX12_functionThere 108 = .ok (.iload_n 3, 1) := by decide +kernel
set_option maxRecDepth 100000 in
theorem dX12_functionThere_109 : decode cX12_functionThere 109 = .ok (.iaload, 1) := by decide +kernel
set_option maxRecDepth 100000 in
theorem dX12_functionThere_110 : decode cX12_functionThere 110 = .ok (.invokevirtual 570, 3) := by decide +kernel
set_option maxRecDepth 100000 in
theorem dX12_functionThere_113 : decode cX12_functionThere 113 = .ok (.aload_n 0, 1) := by decide +kernel
set_option maxRecDepth 100000 in
theorem dX12_functionThere_114 : decode cX12_functionThere 114 = .ok (.getfield 116, 3) := by decide +kernel
set_option maxRecDepth 100000 in
theorem dX12_functionThere_117 : decode cX12_functionThere 117 = .ok (.areturn, 1) := by decide +kernel
set_option maxRecDepth 100000 in
theorem dX12_functionThere_118 : decode cX12_functionThere 118 = .ok (.aload_n 0, 1) := by decide +kernel
set_option maxRecDepth 100000 in
theorem dX12_functionThere_119 : decode cX12_functionThere 119 = .ok (.iload_n 3, 1) := by decide +kernel
set_option maxRecDepth 100000 in
theorem dX12_functionThere_120 : decode cX12_functionThere 120 = .ok (.invokevirtual 989, 3) := by decide +kernel
set_option maxRecDepth 100000 in
theorem dX12_functionThere_123 : decode cX12_functionThere 123 = .ok (.invokevirtual 867, 3) := by decide +kernel
set_option maxRecDepth 100000 in
theorem dX12_functionThere_126 : decode cX12_functionThere 126 = .ok (.astore 5, 2) := by decide +kernel
set_option maxRecDepth 100000 in
theorem dX12_functionThere_128 : decode cX12_functionThere 128 = .ok (.aload 5, 2) := by decide +kernel
set_option maxRecDepth 100000 in
theorem dX12_functionThere_130 : decode cX12_functionThere 130 = .ok (.astore 7, 2) := by decide +kernel
set_option maxRecDepth 100000 in
theorem dX12_functionThere_132 : decode cX12_functionThere 132 = .ok (.aload_n 2, 1) := by decide +kernel
set_option maxRecDepth 100000 in
theorem dX12_functionThere_133 : decode cX12_functionThere 133 = .ok (.getfield 632, 3) := by decide +kernel
set_option maxRecDepth 100000 in
theorem dX12_functionThere_136 : decode cX12_functionThere 136 = .ok (.tableswitch 164 11 20 #[56, 56, 66, 82, 82, 98, 114, 164, 164, 139], 56) := by decide +kernel
set_option maxRecDepth 100000 in
theorem dX12_functionThere_192 : decode cX12_functionThere 192 = .ok (.aload 5, 2) := by decide +kernel
set_option maxRecDepth 100000 in
theorem dX12_functionThere_194 : decode cX12_functionThere 194 = .ok (.invokevirtual 842, 3) := by decide +kernel
set_option maxRecDepth 100000 in
theorem dX12_functionThere_197 : decode cX12_functionThere 197 = .ok (.istore 6, 2) := by decide +kernel
set_option maxRecDepth 100000 in
theorem dX12_functionThere_199 : decode cX12_functionThere 199 = .ok (.goto 108, 3) := by decide +kernel
set_option maxRecDepth 100000 in
theorem dX12_functionThere_202 : decode cX12_functionThere 202 = .ok (.aload 5, 2) := by decide +kernel
set_option maxRecDepth 100000 in
theorem dX12_functionThere_204 : decode cX12_functionThere 204 = .ok (.invokevirtual 842, 3) := by decide +kernel
set_option maxRecDepth 100000 in
theorem dX12_functionThere_207 : decode cX12_functionThere 207 = .ok (.istore 6, 2) := by decide +kernel
set_option maxRecDepth 100000 in
theorem dX12_functionThere_209 : decode cX12_functionThere 209 = .ok (.aload_n 0, 1) := by decide +kernel
set_option maxRecDepth 100000 in
theorem dX12_functionThere_210 : decode cX12_functionThere 210 = .ok (.getfield 113, 3) := by decide +kernel
set_option maxRecDepth 100000 in
theorem dX12_functionThere_213 : decode cX12_functionThere 213 = .ok (.astore 7, 2) := by decide +kernel
set_option maxRecDepth 100000 in
theorem dX12_functionThere_215 : decode cX12_functionThere 215 = .ok (.goto 92, 3) := by decide +kernel
set_option maxRecDepth 100000 in
theorem dX12_functionThere_218 : decode cX12_functionThere 218 = .ok (.aload 5, 2) := by decide +kernel
set_option maxRecDepth 100000 in
theorem dX12_functionThere_220 : decode cX12_functionThere 220 = .ok (.invokevirtual 842, 3) := by decide +kernel
set_option maxRecDepth 100000 in
theorem dX12_functionThere_223 : decode cX12_functionThere 223 = .ok (.istore 6, 2) := by decide +kernel
set_option maxRecDepth 100000 in
theorem dX12_functionThere_225 : decode cX12_functionThere 225 = .ok (.aload_n 0, 1) := by decide +kernel
set_option maxRecDepth 100000 in
theorem dX12_functionThere_226 : decode cX12_functionThere 226 = .ok (.getfield 109, 3) := by decide +kernel
set_option maxRecDepth 100000 in
theorem dX12_functionThere_229 : decode cX12_functionThere 229 = .ok (.astore 7, 2) := by decide +kernel
set_option maxRecDepth 100000 in
theorem dX12_functionThere_231 : decode cX12_functionThere 231 = .ok (.goto 76, 3) := by decide +kernel
set_option maxRecDepth 100000 in
theorem dX12_functionThere_234 : decode cX12_functionThere 234 = .ok (.aload 5, 2) := by decide +kernel
set_option maxRecDepth 100000 in
theorem dX12_functionThere_236 : decode cX12_functionThere 236 = .ok (.invokevirtual 861, 3) := by decide +kernel
set_option maxRecDepth 100000 in
theorem dX12_functionThere_239 : decode cX12_functionThere 239 = .ok (.istore 6, 2) := by decide +kernel
set_option maxRecDepth 100000 in
theorem dX12_functionThere_241 : decode cX12_functionThere 241 = .ok (.aload_n 0, 1) := by decide +kernel
set_option maxRecDepth 100000 in
theorem dX12_functionThere_242 : decode cX12_functionThere 242 = .ok (.getfield 109, 3) := by decide +kernel
set_option maxRecDepth 100000 in
theorem dX12_functionThere_245 : decode cX12_functionThere 245 = .ok (.astore 7, 2) := by decide +kernel
set_option maxRecDepth 100000 in
theorem dX12_functionThere_247 : decode cX12_functionThere 247 = .ok (.goto 60, 3) := by decide +kernel
set_option maxRecDepth 100000 in
theorem dX12_functionThere_250 : decode cX12_functionThere 250 = .ok (.aload 5, 2) := by decide +kernel
set_option maxRecDepth 100000 in
theorem dX12_functionThere_252 : decode cX12_functionThere 252 = .ok (.aload_n 0, 1) := by decide +kernel
set_option maxRecDepth 100000 in
theorem dX12_functionThere_253 : decode cX12_functionThere 253 = .ok (.getfield 109, 3) := by decide +kernel
set_option maxRecDepth 100000 in
theorem dX12_functionThere_256 : decode cX12_functionThere 256 = .ok (.if_acmp .ne 7, 3) := by decide +kernel
set_option maxRecDepth 100000 in
theorem dX12_functionThere_259 : decode cX12_functionThere 259 = .ok (.iconst 1, 1) := by decide +kernel
set_option maxRecDepth 100000 in
theorem dX12_functionThere_260 : decode cX12_functionThere 260 = .ok (.goto 4, 3) := by decide +kernel
set_option maxRecDepth 100000 in
theorem dX12_functionThere_263 : decode cX12_functionThere 263 = .ok (.iconst 0, 1) := by decide +kernel
set_option maxRecDepth 100000 in
theorem dX12_functionThere_264 : decode cX12_functionThere 264 = .ok (.istore 6, 2) := by decide +kernel
set_option maxRecDepth 100000 in
theorem dX12_functionThere_266 : decode cX12_functionThere 266 = .ok (.aload_n 0, 1) := by decide +kernel
set_option maxRecDepth 100000 in
theorem dX12_functionThere_267 : decode cX12_functionThere 267 = .ok (.getfield 119, 3) := by decide +kernel
set_option maxRecDepth 100000 in
theorem dX12_functionThere_270 : decode cX12_functionThere 270 = .ok (.astore 7, 2) := by decide +kernel
set_option maxRecDepth 100000 in
theorem dX12_functionThere_272 : decode cX12_functionThere 272 = .ok (.goto 35, 3) := by decide +kernel
set_option maxRecDepth 100000 in
theorem dX12_functionThere_275 : decode cX12_functionThere 275 = .ok (.aload 5, 2) := by decide +kernel
set_option maxRecDepth 100000 in
theorem dX12_functionThere_277 : decode cX12_functionThere 277 = .ok (.aload_n 0, 1) := by decide +kernel
set_option maxRecDepth 100000 in
theorem dX12_functionThere_278 : decode cX12_functionThere 278 = .ok (.getfield 109, 3) := by decide +kernel
set_option maxRecDepth 100000 in
theorem dX12_functionThere_281 : decode cX12_functionThere 281 = .ok (.if_acmp .ne 7, 3) := by decide +kernel
set_option maxRecDepth 100000 in
theorem dX12_functionThere_284 : decode cX12_functionThere 284 = .ok (.iconst 1, 1) := by decide +kernel
set_option maxRecDepth 100000 in
theorem dX12_functionThere_285 : decode cX12_functionThere 285 = .ok (.goto 4, 3) := by decide +kernel
set_option maxRecDepth 100000 in
theorem dX12_functionThere_288 : decode cX12_functionThere 288 = .ok (.iconst 0, 1) := by decide +kernel
set_option maxRecDepth 100000 in
theorem dX12_functionThere_289 : decode cX12_functionThere 289 = .ok (.istore 6, 2) := by decide +kernel
set_option maxRecDepth 100000 in
theorem dX12_functionThere_291 : decode cX12_functionThere 291 = .ok (.aload_n 0, 1) := by decide +kernel
set_option maxRecDepth 100000 in
theorem dX12_functionThere_292 : decode cX12_functionThere 292 = .ok (.getfield 116, 3) := by decide +kernel
set_option maxRecDepth 100000 in
theorem dX12_functionThere_295 : decode cX12_functionThere 295 = .ok (.astore 7, 2) := by decide +kernel
set_option maxRecDepth 100000 in
theorem dX12_functionThere_297 : decode cX12_functionThere 297 = .ok (.goto 10, 3) := by decide +kernel
set_option maxRecDepth 100000 in
theorem dX12_functionThere_300 : decode cX12_functionThere 300 = .ok (.aload 5, 2) := by decide +kernel
set_option maxRecDepth 100000 in
theorem dX12_functionThere_302 : decode cX12_functionThere 302 = .ok (.invokevirtual 861, 3) := by decide +kernel
set_option maxRecDepth 100000 in
theorem dX12_functionThere_305 : decode cX12_functionThere 305 = .ok (.istore 6, 2) := by decide +kernel
set_option maxRecDepth 100000 in
theorem dX12_functionThere_307 : decode cX12_functionThere 307 = .ok (.iload 6, 2) := by decide +kernel
set_option maxRecDepth 100000 in
theorem dX12_functionThere_309 : decode cX12_functionThere 309 = .ok (.ifCond .ne 15, 3) := by decide +kernel
set_option maxRecDepth 100000 in
theorem dX12_functionThere_312 : decode cX12_functionThere 312 = .ok (.aload_n 0, 1) := by decide +kernel
set_option maxRecDepth 100000 in
theorem dX12_functionThere_313 : decode cX12_functionThere 313 = .ok (.bipush 7, 2) := by decide +kernel
set_option maxRecDepth 100000 in
theorem dX12_functionThere_315 : decode cX12_functionThere 315 = .ok (.aload_n 0, 1) := by decide +kernel
set_option maxRecDepth 100000 in
theorem dX12_functionThere_316 : decode cX12_functionThere 316 = .ok (.getfield 70, 3) := by decide +kernel
set_option maxRecDepth 100000 in
theorem dX12_functionThere_319 : decode cX12_functionThere 319 = .ok (.iload_n 3, 1) := by decide +kernel
set_option maxRecDepth 100000 in
theorem dX12_functionThere_320 : decode cX12_functionThere 320 = .ok (.iaload, 1) := by decide +kernel
set_option maxRecDepth 100000 in
theorem dX12_functionThere_321 : decode cX12_functionThere 321 = .ok (.invokevirtual 570, 3) := by decide +kernel
set_option maxRecDepth 100000 in
theorem dX12_functionThere_324 : decode cX12_functionThere 324 = .ok (.aload 7, 2) := by decide +kernel
set_option maxRecDepth 100000 in
theorem dX12_functionThere_326 : decode cX12_functionThere 326 = .ok (.areturn, 1) := by decide +kernel
set_option maxRecDepth 100000 in
def bX12_functionThere_324 (G : xG) (fr lo : Nat) (x7 : Nat) (h : xH) (Q : Outcome → xH → Prop) : Prop := Q (.returned (some (rv x7))) h
set_option maxRecDepth 100000 in
theorem uX12_functionThere_324 {G : xG} {fr lo : Nat} {x7 : Nat} {h : xH} {Q : Outcome → xH → Prop} (hq : bX12_functionThere_324 G fr lo x7 h Q) : xP G YX12_functionThere fr lo 324 [(7, rv x7)] [] h Q := by
  unfold bX12_functionThere_324 at hq
  refine x_aload 0 dX12_functionThere_324 rfl ?_
  exact x_aret rfl xty_O dX12_functionThere_326 hq
set_option maxRecDepth 100000 in
def bX12_functionThere_307 (G : xG) (fr lo : Nat) (x0 : Nat) (x3 : Int32) (x6 : Int32) (x7 : Nat) (h : xH) (Q : Outcome → xH → Prop) : Prop := ((¬ x6 = 0 → bX12_functionThere_324 G fr lo x7 h Q) ∧ (x6 = 0 → tg h x0 = 13 ∧ tg h (fR h x0 3102) = 100 ∧ vp_in x3 (ln h (fR h x0 3102)) ∧ 1 ≤ fr ∧ 14 ≤ lo ∧ xRv G YX12_refuse (fr - 1) (lo - 14) [rv x0, .int 7, .int (aI h (fR h x0 3102) (Int32.toNatClampNeg x3))] h (fun h7 => xext h h7 → bX12_functionThere_324 G fr lo x7 h7 Q) (fun r h2 => Q (.threw r) h2)))
set_option maxRecDepth 100000 in
theorem uX12_functionThere_307 {G : xG} {fr lo : Nat} {x0 : Nat} {x3 : Int32} {x6 : Int32} {x7 : Nat} {h : xH} {Q : Outcome → xH → Prop} (hq : bX12_functionThere_307 G fr lo x0 x3 x6 x7 h Q) : xP G YX12_functionThere fr lo 307 [(0, rv x0), (3, .int x3), (6, .int x6), (7, rv x7)] [] h Q := by
  unfold bX12_functionThere_307 at hq
  refine x_iload 2 dX12_functionThere_307 rfl ?_
  refine x_if_ne (tgt := 324) dX12_functionThere_309 (by decide) (fun c1 => ?_) (fun c1 => ?_)
  · replace hq := hq.1 c1
    refine xP.pick (lv' := [(7, rv x7)]) [3] rfl ?_
    exact uX12_functionThere_324 hq
  · replace hq := hq.2 c1
    refine x_aload_n 0 dX12_functionThere_312 rfl ?_
    refine x_bipush (v := 7) dX12_functionThere_313 (by decide) ?_
    refine x_aload_n 0 dX12_functionThere_315 rfl ?_
    obtain ⟨g2, hq⟩ := hq
    refine x_get (v := rv (fR h x0 3102)) fdX12_70 dX12_functionThere_316 g2 rfl ?_
    refine x_iload_n 1 dX12_functionThere_319 rfl ?_
    obtain ⟨g3, hq⟩ := hq
    obtain ⟨i4, hq⟩ := hq
    refine x_iald 0 (Or.inl rfl) g3 i4 dX12_functionThere_320 ?_
    obtain ⟨g5, g6, hq⟩ := hq
    refine x_callV (Yc := YX12_refuse) (as := [.int 7, .int (aI h (fR h x0 3102) (Int32.toNatClampNeg x3))]) (st := []) q4095 mvX12_refuse g2 rfl dX12_functionThere_321 (xle (xal1 (rv_cat _) (xal1 rfl (xal1 rfl xal0))) (by decide)) (xfr g5) (xlo xsw0 (by decide) g6) (xKv hq (fun h7 hq e9 => ?_) (fun _ _ q _ => q))
    replace hq := hq e9
    refine xP.pick (lv' := [(7, rv x7)]) [3] rfl ?_
    exact uX12_functionThere_324 hq
set_option maxRecDepth 100000 in
def bX12_functionThere_289 (G : xG) (fr lo : Nat) (x0 : Nat) (x3 : Int32) (s0 : Int32) (h : xH) (Q : Outcome → xH → Prop) : Prop := tg h x0 = 13 ∧ bX12_functionThere_307 G fr lo x0 x3 s0 (fR h x0 3117) h Q
set_option maxRecDepth 100000 in
theorem uX12_functionThere_289 {G : xG} {fr lo : Nat} {x0 : Nat} {x3 : Int32} {s0 : Int32} {h : xH} {Q : Outcome → xH → Prop} (hq : bX12_functionThere_289 G fr lo x0 x3 s0 h Q) : xP G YX12_functionThere fr lo 289 [(0, rv x0), (3, .int x3)] [.int s0] h Q := by
  unfold bX12_functionThere_289 at hq
  refine x_istore (lv' := [(6, .int s0), (0, rv x0), (3, .int x3)]) dX12_functionThere_289 (by decide) rfl ?_
  refine x_aload_n 1 dX12_functionThere_291 rfl ?_
  obtain ⟨g1, hq⟩ := hq
  refine x_get (v := rv (fR h x0 3117)) fdX12_116 dX12_functionThere_292 g1 rfl ?_
  refine x_astore (lv' := [(7, rv (fR h x0 3117)), (6, .int s0), (0, rv x0), (3, .int x3)]) dX12_functionThere_295 (by decide) rfl ?_
  refine x_goto (tgt := 307) dX12_functionThere_297 (by decide) ?_
  refine xP.pick (lv' := [(0, rv x0), (3, .int x3), (6, .int s0), (7, rv (fR h x0 3117))]) [2, 3, 1, 0] rfl ?_
  exact uX12_functionThere_307 hq
set_option maxRecDepth 100000 in
def bX12_functionThere_264 (G : xG) (fr lo : Nat) (x0 : Nat) (x3 : Int32) (s0 : Int32) (h : xH) (Q : Outcome → xH → Prop) : Prop := tg h x0 = 13 ∧ bX12_functionThere_307 G fr lo x0 x3 s0 (fR h x0 3118) h Q
set_option maxRecDepth 100000 in
theorem uX12_functionThere_264 {G : xG} {fr lo : Nat} {x0 : Nat} {x3 : Int32} {s0 : Int32} {h : xH} {Q : Outcome → xH → Prop} (hq : bX12_functionThere_264 G fr lo x0 x3 s0 h Q) : xP G YX12_functionThere fr lo 264 [(0, rv x0), (3, .int x3)] [.int s0] h Q := by
  unfold bX12_functionThere_264 at hq
  refine x_istore (lv' := [(6, .int s0), (0, rv x0), (3, .int x3)]) dX12_functionThere_264 (by decide) rfl ?_
  refine x_aload_n 1 dX12_functionThere_266 rfl ?_
  obtain ⟨g1, hq⟩ := hq
  refine x_get (v := rv (fR h x0 3118)) fdX12_119 dX12_functionThere_267 g1 rfl ?_
  refine x_astore (lv' := [(7, rv (fR h x0 3118)), (6, .int s0), (0, rv x0), (3, .int x3)]) dX12_functionThere_270 (by decide) rfl ?_
  refine x_goto (tgt := 307) dX12_functionThere_272 (by decide) ?_
  refine xP.pick (lv' := [(0, rv x0), (3, .int x3), (6, .int s0), (7, rv (fR h x0 3118))]) [2, 3, 1, 0] rfl ?_
  exact uX12_functionThere_307 hq
set_option maxRecDepth 100000 in
def bX12_functionThere_113 (G : xG) (fr lo : Nat) (x0 : Nat) (h : xH) (Q : Outcome → xH → Prop) : Prop := tg h x0 = 13 ∧ Q (.returned (some (rv (fR h x0 3117)))) h
set_option maxRecDepth 100000 in
theorem uX12_functionThere_113 {G : xG} {fr lo : Nat} {x0 : Nat} {h : xH} {Q : Outcome → xH → Prop} (hq : bX12_functionThere_113 G fr lo x0 h Q) : xP G YX12_functionThere fr lo 113 [(0, rv x0)] [] h Q := by
  unfold bX12_functionThere_113 at hq
  refine x_aload_n 0 dX12_functionThere_113 rfl ?_
  obtain ⟨g1, hq⟩ := hq
  refine x_get (v := rv (fR h x0 3117)) fdX12_116 dX12_functionThere_114 g1 rfl ?_
  exact x_aret rfl xty_O dX12_functionThere_117 hq
set_option maxRecDepth 100000 in
def bX12_functionThere_48 (G : xG) (fr lo : Nat) (x0 : Nat) (x1 : Int32) (x2 : Nat) (x3 : Int32) (x4 : Int32) (h : xH) (Q : Outcome → xH → Prop) : Prop := ((x4 = 0 → tg h x0 = 13 ∧ 1 ≤ fr ∧ 15 ≤ lo ∧ xRr G YX12_checkE (fr - 1) (lo - 15) [rv x0, .int x3] h (fun x6 h5 => xext h h5 → tg h5 x6 = 14 ∧ 1 ≤ fr ∧ 12 ≤ lo ∧ xRr G YX13_own (fr - 1) (lo - 12) [rv x6] h5 (fun x12 h11 => xext h5 h11 → tg h11 x2 = 24 ∧ (((fI h11 x2 5903) = 11 → tg h11 x12 = 14 ∧ 1 ≤ fr ∧ 12 ≤ lo ∧ xRi G YX13_isNumber (fr - 1) (lo - 12) [rv x12] h11 (fun x20 h19 => xext h11 h19 → bX12_functionThere_307 G fr lo x0 x3 x20 x12 h19 Q) (fun r h2 => Q (.threw r) h2)) ∧ ((fI h11 x2 5903) = 12 → tg h11 x12 = 14 ∧ 1 ≤ fr ∧ 12 ≤ lo ∧ xRi G YX13_isNumber (fr - 1) (lo - 12) [rv x12] h11 (fun x27 h26 => xext h11 h26 → bX12_functionThere_307 G fr lo x0 x3 x27 x12 h26 Q) (fun r h2 => Q (.threw r) h2)) ∧ ((fI h11 x2 5903) = 13 → tg h11 x12 = 14 ∧ 1 ≤ fr ∧ 12 ≤ lo ∧ xRi G YX13_isNumber (fr - 1) (lo - 12) [rv x12] h11 (fun x34 h33 => xext h11 h33 → bX12_functionThere_307 G fr lo x0 x3 x34 (fR h33 x0 3116) h33 Q) (fun r h2 => Q (.threw r) h2)) ∧ ((fI h11 x2 5903) = 14 → tg h11 x12 = 14 ∧ 1 ≤ fr ∧ 12 ≤ lo ∧ xRi G YX13_isNumber (fr - 1) (lo - 12) [rv x12] h11 (fun x44 h43 => xext h11 h43 → bX12_functionThere_307 G fr lo x0 x3 x44 (fR h43 x0 3115) h43 Q) (fun r h2 => Q (.threw r) h2)) ∧ ((fI h11 x2 5903) = 15 → tg h11 x12 = 14 ∧ 1 ≤ fr ∧ 12 ≤ lo ∧ xRi G YX13_isNumber (fr - 1) (lo - 12) [rv x12] h11 (fun x54 h53 => xext h11 h53 → bX12_functionThere_307 G fr lo x0 x3 x54 (fR h53 x0 3115) h53 Q) (fun r h2 => Q (.threw r) h2)) ∧ ((fI h11 x2 5903) = 16 → tg h11 x12 = 14 ∧ 1 ≤ fr ∧ 12 ≤ lo ∧ xRi G YX13_isOrdinal (fr - 1) (lo - 12) [rv x12] h11 (fun x64 h63 => xext h11 h63 → bX12_functionThere_307 G fr lo x0 x3 x64 (fR h63 x0 3115) h63 Q) (fun r h2 => Q (.threw r) h2)) ∧ ((fI h11 x2 5903) = 17 → ((¬ x12 = (fR h11 x0 3115) → bX12_functionThere_264 G fr lo x0 x3 0 h11 Q) ∧ (x12 = (fR h11 x0 3115) → bX12_functionThere_264 G fr lo x0 x3 1 h11 Q))) ∧ ((fI h11 x2 5903) = 18 → tg h11 x12 = 14 ∧ 1 ≤ fr ∧ 12 ≤ lo ∧ xRi G YX13_isOrdinal (fr - 1) (lo - 12) [rv x12] h11 (fun x78 h77 => xext h11 h77 → bX12_functionThere_307 G fr lo x0 x3 x78 x12 h77 Q) (fun r h2 => Q (.threw r) h2)) ∧ ((fI h11 x2 5903) = 19 → tg h11 x12 = 14 ∧ 1 ≤ fr ∧ 12 ≤ lo ∧ xRi G YX13_isOrdinal (fr - 1) (lo - 12) [rv x12] h11 (fun x85 h84 => xext h11 h84 → bX12_functionThere_307 G fr lo x0 x3 x85 x12 h84 Q) (fun r h2 => Q (.threw r) h2)) ∧ ((fI h11 x2 5903) = 20 → ((¬ x12 = (fR h11 x0 3115) → bX12_functionThere_289 G fr lo x0 x3 0 h11 Q) ∧ (x12 = (fR h11 x0 3115) → bX12_functionThere_289 G fr lo x0 x3 1 h11 Q))) ∧ (¬ (fI h11 x2 5903) = 11 → ¬ (fI h11 x2 5903) = 12 → ¬ (fI h11 x2 5903) = 13 → ¬ (fI h11 x2 5903) = 14 → ¬ (fI h11 x2 5903) = 15 → ¬ (fI h11 x2 5903) = 16 → ¬ (fI h11 x2 5903) = 17 → ¬ (fI h11 x2 5903) = 18 → ¬ (fI h11 x2 5903) = 19 → ¬ (fI h11 x2 5903) = 20 → tg h11 x12 = 14 ∧ 1 ≤ fr ∧ 12 ≤ lo ∧ xRi G YX13_isOrdinal (fr - 1) (lo - 12) [rv x12] h11 (fun x95 h94 => xext h11 h94 → bX12_functionThere_307 G fr lo x0 x3 x95 x12 h94 Q) (fun r h2 => Q (.threw r) h2)))) (fun r h2 => Q (.threw r) h2)) (fun r h2 => Q (.threw r) h2)) ∧ (¬ x4 = 0 → ((¬ x3 = (-1) → tg h x0 = 13 ∧ 1 ≤ fr ∧ 14 ≤ lo ∧ xRr G YX12_fileArgument (fr - 1) (lo - 14) [rv x0, .int x3] h (fun x102 h101 => xext h h101 → tg h101 x2 = 24 ∧ ((¬ (fI h101 x2 5903) = 22 → bX12_functionThere_113 G fr lo x0 h101 Q) ∧ ((fI h101 x2 5903) = 22 → tg h101 x102 = 24 ∧ tg h101 (fR h101 x102 5890) = 14 ∧ 1 ≤ fr ∧ 12 ≤ lo ∧ xRi G YX13_isText (fr - 1) (lo - 12) [rv (fR h101 x102 5890)] h101 (fun x111 h110 => xext h101 h110 → ((¬ x111 = 0 → bX12_functionThere_113 G fr lo x0 h110 Q) ∧ (x111 = 0 → tg h110 (fR h110 x0 3102) = 100 ∧ vp_in x3 (ln h110 (fR h110 x0 3102)) ∧ 1 ≤ fr ∧ 14 ≤ lo ∧ xRv G YX12_refuse (fr - 1) (lo - 14) [rv x0, .int 7, .int (aI h110 (fR h110 x0 3102) (Int32.toNatClampNeg x3))] h110 (fun h120 => xext h110 h120 → bX12_functionThere_113 G fr lo x0 h120 Q) (fun r h2 => Q (.threw r) h2)))) (fun r h2 => Q (.threw r) h2)))) (fun r h2 => Q (.threw r) h2)) ∧ (x3 = (-1) → tg h x0 = 13 ∧ ((¬ (fR h x0 3129) = 0 → bX12_functionThere_113 G fr lo x0 h Q) ∧ ((fR h x0 3129) = 0 → 1 ≤ fr ∧ 14 ≤ lo ∧ xRv G YX12_refuse (fr - 1) (lo - 14) [rv x0, .int 4, .int x1] h (fun h127 => xext h h127 → bX12_functionThere_113 G fr lo x0 h127 Q) (fun r h2 => Q (.threw r) h2)))))))
set_option maxRecDepth 100000 in
theorem uX12_functionThere_48 {G : xG} {fr lo : Nat} {x0 : Nat} {x1 : Int32} {x2 : Nat} {x3 : Int32} {x4 : Int32} {h : xH} {Q : Outcome → xH → Prop} (hq : bX12_functionThere_48 G fr lo x0 x1 x2 x3 x4 h Q) : xP G YX12_functionThere fr lo 48 [(0, rv x0), (1, .int x1), (2, rv x2), (3, .int x3), (4, .int x4)] [] h Q := by
  unfold bX12_functionThere_48 at hq
  refine x_iload 4 dX12_functionThere_48 rfl ?_
  refine x_if_eq (tgt := 118) dX12_functionThere_50 (by decide) (fun c1 => ?_) (fun c1 => ?_)
  · replace hq := hq.1 c1
    refine x_aload_n 0 dX12_functionThere_118 rfl ?_
    refine x_iload_n 3 dX12_functionThere_119 rfl ?_
    obtain ⟨g2, hq⟩ := hq
    obtain ⟨g3, g4, hq⟩ := hq
    refine x_callV (Yc := YX12_checkE) (as := [.int x3]) (st := []) q4308 mvX12_checkE g2 rfl dX12_functionThere_120 (xle (xal1 (rv_cat _) (xal1 rfl xal0)) (by decide)) (xfr g3) (xlo xsw0 (by decide) g4) (xKr hq (fun x6 h5 hq e7 => ?_) (fun _ _ q _ => q))
    replace hq := hq e7
    obtain ⟨g8, hq⟩ := hq
    obtain ⟨g9, g10, hq⟩ := hq
    refine x_callV (Yc := YX13_own) (as := []) (st := []) q4189 mvX13_own g8 rfl dX12_functionThere_123 (xle (xal1 (rv_cat _) xal0) (by decide)) (xfr g9) (xlo xsw0 (by decide) g10) (xKr hq (fun x12 h11 hq e13 => ?_) (fun _ _ q _ => q))
    replace hq := hq e13
    refine x_astore (lv' := [(5, rv x12), (0, rv x0), (1, .int x1), (2, rv x2), (3, .int x3), (4, .int x4)]) dX12_functionThere_126 (by decide) rfl ?_
    refine x_aload 0 dX12_functionThere_128 rfl ?_
    refine x_astore (lv' := [(7, rv x12), (5, rv x12), (0, rv x0), (1, .int x1), (2, rv x2), (3, .int x3), (4, .int x4)]) dX12_functionThere_130 (by decide) rfl ?_
    refine x_aload_n 4 dX12_functionThere_132 rfl ?_
    obtain ⟨g14, hq⟩ := hq
    refine x_get (v := .int (fI h11 x2 5903)) fdX12_632 dX12_functionThere_133 g14 rfl ?_
    by_cases c15 : (fI h11 x2 5903) = 11
    · replace hq := hq.1 c15
      refine x_tin (tgt := 192) (off := 56) 11 c15 dX12_functionThere_136 (by decide) (by decide) (by decide) (by decide) ?_
      refine x_aload 1 dX12_functionThere_192 rfl ?_
      obtain ⟨g16, hq⟩ := hq
      obtain ⟨g17, g18, hq⟩ := hq
      refine x_callV (Yc := YX13_isNumber) (as := []) (st := []) q4165 mvX13_isNumber g16 rfl dX12_functionThere_194 (xle (xal1 (rv_cat _) xal0) (by decide)) (xfr g17) (xlo xsw0 (by decide) g18) (xKi hq (fun x20 h19 hq e21 => ?_) (fun _ _ q _ => q))
      replace hq := hq e21
      refine x_istore (lv' := [(6, .int x20), (7, rv x12), (5, rv x12), (0, rv x0), (1, .int x1), (2, rv x2), (3, .int x3), (4, .int x4)]) dX12_functionThere_197 (by decide) (by first | rfl | (simp [rv_cat, Value.category]; done) | (simp [rv_cat, Value.category]; decide)) ?_
      refine x_goto (tgt := 307) dX12_functionThere_199 (by decide) ?_
      refine xP.pick (lv' := [(0, rv x0), (3, .int x3), (6, .int x20), (7, rv x12)]) [3, 6, 0, 1] rfl ?_
      exact uX12_functionThere_307 hq
    replace hq := hq.2
    by_cases c22 : (fI h11 x2 5903) = 12
    · replace hq := hq.1 c22
      refine x_tin (tgt := 192) (off := 56) 12 c22 dX12_functionThere_136 (by decide) (by decide) (by decide) (by decide) ?_
      refine x_aload 1 dX12_functionThere_192 rfl ?_
      obtain ⟨g23, hq⟩ := hq
      obtain ⟨g24, g25, hq⟩ := hq
      refine x_callV (Yc := YX13_isNumber) (as := []) (st := []) q4165 mvX13_isNumber g23 rfl dX12_functionThere_194 (xle (xal1 (rv_cat _) xal0) (by decide)) (xfr g24) (xlo xsw0 (by decide) g25) (xKi hq (fun x27 h26 hq e28 => ?_) (fun _ _ q _ => q))
      replace hq := hq e28
      refine x_istore (lv' := [(6, .int x27), (7, rv x12), (5, rv x12), (0, rv x0), (1, .int x1), (2, rv x2), (3, .int x3), (4, .int x4)]) dX12_functionThere_197 (by decide) (by first | rfl | (simp [rv_cat, Value.category]; done) | (simp [rv_cat, Value.category]; decide)) ?_
      refine x_goto (tgt := 307) dX12_functionThere_199 (by decide) ?_
      refine xP.pick (lv' := [(0, rv x0), (3, .int x3), (6, .int x27), (7, rv x12)]) [3, 6, 0, 1] rfl ?_
      exact uX12_functionThere_307 hq
    replace hq := hq.2
    by_cases c29 : (fI h11 x2 5903) = 13
    · replace hq := hq.1 c29
      refine x_tin (tgt := 202) (off := 66) 13 c29 dX12_functionThere_136 (by decide) (by decide) (by decide) (by decide) ?_
      refine x_aload 1 dX12_functionThere_202 rfl ?_
      obtain ⟨g30, hq⟩ := hq
      obtain ⟨g31, g32, hq⟩ := hq
      refine x_callV (Yc := YX13_isNumber) (as := []) (st := []) q4165 mvX13_isNumber g30 rfl dX12_functionThere_204 (xle (xal1 (rv_cat _) xal0) (by decide)) (xfr g31) (xlo xsw0 (by decide) g32) (xKi hq (fun x34 h33 hq e35 => ?_) (fun _ _ q _ => q))
      replace hq := hq e35
      refine x_istore (lv' := [(6, .int x34), (7, rv x12), (5, rv x12), (0, rv x0), (1, .int x1), (2, rv x2), (3, .int x3), (4, .int x4)]) dX12_functionThere_207 (by decide) (by first | rfl | (simp [rv_cat, Value.category]; done) | (simp [rv_cat, Value.category]; decide)) ?_
      refine x_aload_n 3 dX12_functionThere_209 rfl ?_
      have t36 : tg h5 x0 = 13 := e7.tg g2 (by decide)
      have t37 : tg h11 x0 = 13 := e13.tg t36 (by decide)
      have t38 : tg h33 x0 = 13 := e35.tg t37 (by decide)
      refine x_get (v := rv (fR h33 x0 3116)) fdX12_113 dX12_functionThere_210 t38 rfl ?_
      refine x_astore (lv' := [(7, rv (fR h33 x0 3116)), (6, .int x34), (5, rv x12), (0, rv x0), (1, .int x1), (2, rv x2), (3, .int x3), (4, .int x4)]) dX12_functionThere_213 (by decide) rfl ?_
      refine x_goto (tgt := 307) dX12_functionThere_215 (by decide) ?_
      refine xP.pick (lv' := [(0, rv x0), (3, .int x3), (6, .int x34), (7, rv (fR h33 x0 3116))]) [3, 6, 1, 0] rfl ?_
      exact uX12_functionThere_307 hq
    replace hq := hq.2
    by_cases c39 : (fI h11 x2 5903) = 14
    · replace hq := hq.1 c39
      refine x_tin (tgt := 218) (off := 82) 14 c39 dX12_functionThere_136 (by decide) (by decide) (by decide) (by decide) ?_
      refine x_aload 1 dX12_functionThere_218 rfl ?_
      obtain ⟨g40, hq⟩ := hq
      obtain ⟨g41, g42, hq⟩ := hq
      refine x_callV (Yc := YX13_isNumber) (as := []) (st := []) q4165 mvX13_isNumber g40 rfl dX12_functionThere_220 (xle (xal1 (rv_cat _) xal0) (by decide)) (xfr g41) (xlo xsw0 (by decide) g42) (xKi hq (fun x44 h43 hq e45 => ?_) (fun _ _ q _ => q))
      replace hq := hq e45
      refine x_istore (lv' := [(6, .int x44), (7, rv x12), (5, rv x12), (0, rv x0), (1, .int x1), (2, rv x2), (3, .int x3), (4, .int x4)]) dX12_functionThere_223 (by decide) (by first | rfl | (simp [rv_cat, Value.category]; done) | (simp [rv_cat, Value.category]; decide)) ?_
      refine x_aload_n 3 dX12_functionThere_225 rfl ?_
      have t46 : tg h5 x0 = 13 := e7.tg g2 (by decide)
      have t47 : tg h11 x0 = 13 := e13.tg t46 (by decide)
      have t48 : tg h43 x0 = 13 := e45.tg t47 (by decide)
      refine x_get (v := rv (fR h43 x0 3115)) fdX12_109 dX12_functionThere_226 t48 rfl ?_
      refine x_astore (lv' := [(7, rv (fR h43 x0 3115)), (6, .int x44), (5, rv x12), (0, rv x0), (1, .int x1), (2, rv x2), (3, .int x3), (4, .int x4)]) dX12_functionThere_229 (by decide) rfl ?_
      refine x_goto (tgt := 307) dX12_functionThere_231 (by decide) ?_
      refine xP.pick (lv' := [(0, rv x0), (3, .int x3), (6, .int x44), (7, rv (fR h43 x0 3115))]) [3, 6, 1, 0] rfl ?_
      exact uX12_functionThere_307 hq
    replace hq := hq.2
    by_cases c49 : (fI h11 x2 5903) = 15
    · replace hq := hq.1 c49
      refine x_tin (tgt := 218) (off := 82) 15 c49 dX12_functionThere_136 (by decide) (by decide) (by decide) (by decide) ?_
      refine x_aload 1 dX12_functionThere_218 rfl ?_
      obtain ⟨g50, hq⟩ := hq
      obtain ⟨g51, g52, hq⟩ := hq
      refine x_callV (Yc := YX13_isNumber) (as := []) (st := []) q4165 mvX13_isNumber g50 rfl dX12_functionThere_220 (xle (xal1 (rv_cat _) xal0) (by decide)) (xfr g51) (xlo xsw0 (by decide) g52) (xKi hq (fun x54 h53 hq e55 => ?_) (fun _ _ q _ => q))
      replace hq := hq e55
      refine x_istore (lv' := [(6, .int x54), (7, rv x12), (5, rv x12), (0, rv x0), (1, .int x1), (2, rv x2), (3, .int x3), (4, .int x4)]) dX12_functionThere_223 (by decide) (by first | rfl | (simp [rv_cat, Value.category]; done) | (simp [rv_cat, Value.category]; decide)) ?_
      refine x_aload_n 3 dX12_functionThere_225 rfl ?_
      have t56 : tg h5 x0 = 13 := e7.tg g2 (by decide)
      have t57 : tg h11 x0 = 13 := e13.tg t56 (by decide)
      have t58 : tg h53 x0 = 13 := e55.tg t57 (by decide)
      refine x_get (v := rv (fR h53 x0 3115)) fdX12_109 dX12_functionThere_226 t58 rfl ?_
      refine x_astore (lv' := [(7, rv (fR h53 x0 3115)), (6, .int x54), (5, rv x12), (0, rv x0), (1, .int x1), (2, rv x2), (3, .int x3), (4, .int x4)]) dX12_functionThere_229 (by decide) rfl ?_
      refine x_goto (tgt := 307) dX12_functionThere_231 (by decide) ?_
      refine xP.pick (lv' := [(0, rv x0), (3, .int x3), (6, .int x54), (7, rv (fR h53 x0 3115))]) [3, 6, 1, 0] rfl ?_
      exact uX12_functionThere_307 hq
    replace hq := hq.2
    by_cases c59 : (fI h11 x2 5903) = 16
    · replace hq := hq.1 c59
      refine x_tin (tgt := 234) (off := 98) 16 c59 dX12_functionThere_136 (by decide) (by decide) (by decide) (by decide) ?_
      refine x_aload 1 dX12_functionThere_234 rfl ?_
      obtain ⟨g60, hq⟩ := hq
      obtain ⟨g61, g62, hq⟩ := hq
      refine x_callV (Yc := YX13_isOrdinal) (as := []) (st := []) q4185 mvX13_isOrdinal g60 rfl dX12_functionThere_236 (xle (xal1 (rv_cat _) xal0) (by decide)) (xfr g61) (xlo xsw0 (by decide) g62) (xKi hq (fun x64 h63 hq e65 => ?_) (fun _ _ q _ => q))
      replace hq := hq e65
      refine x_istore (lv' := [(6, .int x64), (7, rv x12), (5, rv x12), (0, rv x0), (1, .int x1), (2, rv x2), (3, .int x3), (4, .int x4)]) dX12_functionThere_239 (by decide) (by first | rfl | (simp [rv_cat, Value.category]; done) | (simp [rv_cat, Value.category]; decide)) ?_
      refine x_aload_n 3 dX12_functionThere_241 rfl ?_
      have t66 : tg h5 x0 = 13 := e7.tg g2 (by decide)
      have t67 : tg h11 x0 = 13 := e13.tg t66 (by decide)
      have t68 : tg h63 x0 = 13 := e65.tg t67 (by decide)
      refine x_get (v := rv (fR h63 x0 3115)) fdX12_109 dX12_functionThere_242 t68 rfl ?_
      refine x_astore (lv' := [(7, rv (fR h63 x0 3115)), (6, .int x64), (5, rv x12), (0, rv x0), (1, .int x1), (2, rv x2), (3, .int x3), (4, .int x4)]) dX12_functionThere_245 (by decide) rfl ?_
      refine x_goto (tgt := 307) dX12_functionThere_247 (by decide) ?_
      refine xP.pick (lv' := [(0, rv x0), (3, .int x3), (6, .int x64), (7, rv (fR h63 x0 3115))]) [3, 6, 1, 0] rfl ?_
      exact uX12_functionThere_307 hq
    replace hq := hq.2
    by_cases c69 : (fI h11 x2 5903) = 17
    · replace hq := hq.1 c69
      refine x_tin (tgt := 250) (off := 114) 17 c69 dX12_functionThere_136 (by decide) (by decide) (by decide) (by decide) ?_
      refine x_aload 1 dX12_functionThere_250 rfl ?_
      refine x_aload_n 2 dX12_functionThere_252 rfl ?_
      have t70 : tg h5 x0 = 13 := e7.tg g2 (by decide)
      have t71 : tg h11 x0 = 13 := e13.tg t70 (by decide)
      refine x_get (v := rv (fR h11 x0 3115)) fdX12_109 dX12_functionThere_253 t71 rfl ?_
      refine x_acmp_ne (tgt := 263) dX12_functionThere_256 (by decide) (fun c72 => ?_) (fun c72 => ?_)
      · replace hq := hq.1 c72
        refine x_iconst (v := 0) dX12_functionThere_263 (by decide) ?_
        refine xP.pick (lv' := [(0, rv x0), (3, .int x3)]) [2, 5] rfl ?_
        exact uX12_functionThere_264 hq
      · replace hq := hq.2 c72
        refine x_iconst (v := 1) dX12_functionThere_259 (by decide) ?_
        refine x_goto (tgt := 264) dX12_functionThere_260 (by decide) ?_
        refine xP.pick (lv' := [(0, rv x0), (3, .int x3)]) [2, 5] rfl ?_
        exact uX12_functionThere_264 hq
    replace hq := hq.2
    by_cases c73 : (fI h11 x2 5903) = 18
    · replace hq := hq.1 c73
      refine x_tin (tgt := 300) (off := 164) 18 c73 dX12_functionThere_136 (by decide) (by decide) (by decide) (by decide) ?_
      refine x_aload 1 dX12_functionThere_300 rfl ?_
      obtain ⟨g74, hq⟩ := hq
      obtain ⟨g75, g76, hq⟩ := hq
      refine x_callV (Yc := YX13_isOrdinal) (as := []) (st := []) q4185 mvX13_isOrdinal g74 rfl dX12_functionThere_302 (xle (xal1 (rv_cat _) xal0) (by decide)) (xfr g75) (xlo xsw0 (by decide) g76) (xKi hq (fun x78 h77 hq e79 => ?_) (fun _ _ q _ => q))
      replace hq := hq e79
      refine x_istore (lv' := [(6, .int x78), (7, rv x12), (5, rv x12), (0, rv x0), (1, .int x1), (2, rv x2), (3, .int x3), (4, .int x4)]) dX12_functionThere_305 (by decide) (by first | rfl | (simp [rv_cat, Value.category]; done) | (simp [rv_cat, Value.category]; decide)) ?_
      refine xP.pick (lv' := [(0, rv x0), (3, .int x3), (6, .int x78), (7, rv x12)]) [3, 6, 0, 1] rfl ?_
      exact uX12_functionThere_307 hq
    replace hq := hq.2
    by_cases c80 : (fI h11 x2 5903) = 19
    · replace hq := hq.1 c80
      refine x_tin (tgt := 300) (off := 164) 19 c80 dX12_functionThere_136 (by decide) (by decide) (by decide) (by decide) ?_
      refine x_aload 1 dX12_functionThere_300 rfl ?_
      obtain ⟨g81, hq⟩ := hq
      obtain ⟨g82, g83, hq⟩ := hq
      refine x_callV (Yc := YX13_isOrdinal) (as := []) (st := []) q4185 mvX13_isOrdinal g81 rfl dX12_functionThere_302 (xle (xal1 (rv_cat _) xal0) (by decide)) (xfr g82) (xlo xsw0 (by decide) g83) (xKi hq (fun x85 h84 hq e86 => ?_) (fun _ _ q _ => q))
      replace hq := hq e86
      refine x_istore (lv' := [(6, .int x85), (7, rv x12), (5, rv x12), (0, rv x0), (1, .int x1), (2, rv x2), (3, .int x3), (4, .int x4)]) dX12_functionThere_305 (by decide) (by first | rfl | (simp [rv_cat, Value.category]; done) | (simp [rv_cat, Value.category]; decide)) ?_
      refine xP.pick (lv' := [(0, rv x0), (3, .int x3), (6, .int x85), (7, rv x12)]) [3, 6, 0, 1] rfl ?_
      exact uX12_functionThere_307 hq
    replace hq := hq.2
    by_cases c87 : (fI h11 x2 5903) = 20
    · replace hq := hq.1 c87
      refine x_tin (tgt := 275) (off := 139) 20 c87 dX12_functionThere_136 (by decide) (by decide) (by decide) (by decide) ?_
      refine x_aload 1 dX12_functionThere_275 rfl ?_
      refine x_aload_n 2 dX12_functionThere_277 rfl ?_
      have t88 : tg h5 x0 = 13 := e7.tg g2 (by decide)
      have t89 : tg h11 x0 = 13 := e13.tg t88 (by decide)
      refine x_get (v := rv (fR h11 x0 3115)) fdX12_109 dX12_functionThere_278 t89 rfl ?_
      refine x_acmp_ne (tgt := 288) dX12_functionThere_281 (by decide) (fun c90 => ?_) (fun c90 => ?_)
      · replace hq := hq.1 c90
        refine x_iconst (v := 0) dX12_functionThere_288 (by decide) ?_
        refine xP.pick (lv' := [(0, rv x0), (3, .int x3)]) [2, 5] rfl ?_
        exact uX12_functionThere_289 hq
      · replace hq := hq.2 c90
        refine x_iconst (v := 1) dX12_functionThere_284 (by decide) ?_
        refine x_goto (tgt := 289) dX12_functionThere_285 (by decide) ?_
        refine xP.pick (lv' := [(0, rv x0), (3, .int x3)]) [2, 5] rfl ?_
        exact uX12_functionThere_289 hq
    replace hq := hq.2
    replace hq := hq c15 c22 c29 c39 c49 c59 c69 c73 c80 c87
    have nc15 := lv_neT c15 (show (11 : Int32).toInt = 11 from by decide)
    have nc22 := lv_neT c22 (show (12 : Int32).toInt = 12 from by decide)
    have nc29 := lv_neT c29 (show (13 : Int32).toInt = 13 from by decide)
    have nc39 := lv_neT c39 (show (14 : Int32).toInt = 14 from by decide)
    have nc49 := lv_neT c49 (show (15 : Int32).toInt = 15 from by decide)
    have nc59 := lv_neT c59 (show (16 : Int32).toInt = 16 from by decide)
    have nc69 := lv_neT c69 (show (17 : Int32).toInt = 17 from by decide)
    have nc73 := lv_neT c73 (show (18 : Int32).toInt = 18 from by decide)
    have nc80 := lv_neT c80 (show (19 : Int32).toInt = 19 from by decide)
    have nc87 := lv_neT c87 (show (20 : Int32).toInt = 20 from by decide)
    refine x_tout (tgt := 300) dX12_functionThere_136 (by omega) (by decide) ?_
    refine x_aload 1 dX12_functionThere_300 rfl ?_
    obtain ⟨g91, hq⟩ := hq
    obtain ⟨g92, g93, hq⟩ := hq
    refine x_callV (Yc := YX13_isOrdinal) (as := []) (st := []) q4185 mvX13_isOrdinal g91 rfl dX12_functionThere_302 (xle (xal1 (rv_cat _) xal0) (by decide)) (xfr g92) (xlo xsw0 (by decide) g93) (xKi hq (fun x95 h94 hq e96 => ?_) (fun _ _ q _ => q))
    replace hq := hq e96
    refine x_istore (lv' := [(6, .int x95), (7, rv x12), (5, rv x12), (0, rv x0), (1, .int x1), (2, rv x2), (3, .int x3), (4, .int x4)]) dX12_functionThere_305 (by decide) (by first | rfl | (simp [rv_cat, Value.category]; done) | (simp [rv_cat, Value.category]; decide)) ?_
    refine xP.pick (lv' := [(0, rv x0), (3, .int x3), (6, .int x95), (7, rv x12)]) [3, 6, 0, 1] rfl ?_
    exact uX12_functionThere_307 hq
  · replace hq := hq.2 c1
    refine x_iload_n 3 dX12_functionThere_53 rfl ?_
    refine x_iconst (v := (-1)) dX12_functionThere_54 (by decide) ?_
    refine x_icmp_ne (tgt := 74) dX12_functionThere_55 (by decide) (fun c97 => ?_) (fun c97 => ?_)
    · replace hq := hq.1 c97
      refine x_aload_n 0 dX12_functionThere_74 rfl ?_
      refine x_iload_n 3 dX12_functionThere_75 rfl ?_
      obtain ⟨g98, hq⟩ := hq
      obtain ⟨g99, g100, hq⟩ := hq
      refine x_callV (Yc := YX12_fileArgument) (as := [.int x3]) (st := []) q4340 mvX12_fileArgument g98 rfl dX12_functionThere_76 (xle (xal1 (rv_cat _) (xal1 rfl xal0)) (by decide)) (xfr g99) (xlo xsw0 (by decide) g100) (xKr hq (fun x102 h101 hq e103 => ?_) (fun _ _ q _ => q))
      replace hq := hq e103
      refine x_astore (lv' := [(5, rv x102), (0, rv x0), (1, .int x1), (2, rv x2), (3, .int x3), (4, .int x4)]) dX12_functionThere_79 (by decide) rfl ?_
      refine x_aload_n 3 dX12_functionThere_81 rfl ?_
      obtain ⟨g104, hq⟩ := hq
      refine x_get (v := .int (fI h101 x2 5903)) fdX12_632 dX12_functionThere_82 g104 rfl ?_
      refine x_bipush (v := 22) dX12_functionThere_85 (by decide) ?_
      refine x_icmp_ne (tgt := 113) dX12_functionThere_87 (by decide) (fun c105 => ?_) (fun c105 => ?_)
      · replace hq := hq.1 c105
        refine xP.pick (lv' := [(0, rv x0)]) [1] rfl ?_
        exact uX12_functionThere_113 hq
      · replace hq := hq.2 c105
        refine x_aload 0 dX12_functionThere_90 rfl ?_
        obtain ⟨g106, hq⟩ := hq
        refine x_get (v := rv (fR h101 x102 5890)) fdX12_612 dX12_functionThere_92 g106 rfl ?_
        obtain ⟨g107, hq⟩ := hq
        obtain ⟨g108, g109, hq⟩ := hq
        refine x_callV (Yc := YX13_isText) (as := []) (st := []) q4352 mvX13_isText g107 rfl dX12_functionThere_95 (xle (xal1 (rv_cat _) xal0) (by decide)) (xfr g108) (xlo xsw0 (by decide) g109) (xKi hq (fun x111 h110 hq e112 => ?_) (fun _ _ q _ => q))
        replace hq := hq e112
        refine x_if_ne (tgt := 113) dX12_functionThere_98 (by decide) (fun c113 => ?_) (fun c113 => ?_)
        · replace hq := hq.1 c113
          refine xP.pick (lv' := [(0, rv x0)]) [1] rfl ?_
          exact uX12_functionThere_113 hq
        · replace hq := hq.2 c113
          refine x_aload_n 1 dX12_functionThere_101 rfl ?_
          refine x_bipush (v := 7) dX12_functionThere_102 (by decide) ?_
          refine x_aload_n 1 dX12_functionThere_104 rfl ?_
          have t114 : tg h101 x0 = 13 := e103.tg g98 (by decide)
          have t115 : tg h110 x0 = 13 := e112.tg t114 (by decide)
          refine x_get (v := rv (fR h110 x0 3102)) fdX12_70 dX12_functionThere_105 t115 rfl ?_
          refine x_iload_n 4 dX12_functionThere_108 rfl ?_
          obtain ⟨g116, hq⟩ := hq
          obtain ⟨i117, hq⟩ := hq
          refine x_iald 0 (Or.inl rfl) g116 i117 dX12_functionThere_109 ?_
          obtain ⟨g118, g119, hq⟩ := hq
          refine x_callV (Yc := YX12_refuse) (as := [.int 7, .int (aI h110 (fR h110 x0 3102) (Int32.toNatClampNeg x3))]) (st := []) q4095 mvX12_refuse t115 rfl dX12_functionThere_110 (xle (xal1 (rv_cat _) (xal1 rfl (xal1 rfl xal0))) (by decide)) (xfr g118) (xlo xsw0 (by decide) g119) (xKv hq (fun h120 hq e122 => ?_) (fun _ _ q _ => q))
          replace hq := hq e122
          refine xP.pick (lv' := [(0, rv x0)]) [1] rfl ?_
          exact uX12_functionThere_113 hq
    · replace hq := hq.2 c97
      refine x_aload_n 0 dX12_functionThere_58 rfl ?_
      obtain ⟨g123, hq⟩ := hq
      refine x_get (v := rv (fR h x0 3129)) fdX12_727 dX12_functionThere_59 g123 rfl ?_
      refine x_ifnonnull (tgt := 113) dX12_functionThere_62 (by decide) (fun c124 => ?_) (fun c124 => ?_)
      · replace hq := hq.1 c124
        refine xP.pick (lv' := [(0, rv x0)]) [0] rfl ?_
        exact uX12_functionThere_113 hq
      · replace hq := hq.2 c124
        refine x_aload_n 0 dX12_functionThere_65 rfl ?_
        refine x_iconst (v := 4) dX12_functionThere_66 (by decide) ?_
        refine x_iload_n 1 dX12_functionThere_67 rfl ?_
        obtain ⟨g125, g126, hq⟩ := hq
        refine x_callV (Yc := YX12_refuse) (as := [.int 4, .int x1]) (st := []) q4095 mvX12_refuse g123 rfl dX12_functionThere_68 (xle (xal1 (rv_cat _) (xal1 rfl (xal1 rfl xal0))) (by decide)) (xfr g125) (xlo xsw0 (by decide) g126) (xKv hq (fun h127 hq e129 => ?_) (fun _ _ q _ => q))
        replace hq := hq e129
        refine x_goto (tgt := 113) dX12_functionThere_71 (by decide) ?_
        refine xP.pick (lv' := [(0, rv x0)]) [0] rfl ?_
        exact uX12_functionThere_113 hq
set_option maxRecDepth 100000 in
def bX12_functionThere_41 (G : xG) (fr lo : Nat) (x0 : Nat) (x1 : Int32) (x2 : Nat) (x3 : Int32) (x4 : Int32) (h : xH) (Q : Outcome → xH → Prop) : Prop := tg h x0 = 13 ∧ 1 ≤ fr ∧ 14 ≤ lo ∧ xRv G YX12_refuse (fr - 1) (lo - 14) [rv x0, .int 9, .int x1] h (fun h4 => xext h h4 → bX12_functionThere_48 G fr lo x0 x1 x2 x3 x4 h4 Q) (fun r h2 => Q (.threw r) h2)
set_option maxRecDepth 100000 in
theorem uX12_functionThere_41 {G : xG} {fr lo : Nat} {x0 : Nat} {x1 : Int32} {x2 : Nat} {x3 : Int32} {x4 : Int32} {h : xH} {Q : Outcome → xH → Prop} (hq : bX12_functionThere_41 G fr lo x0 x1 x2 x3 x4 h Q) : xP G YX12_functionThere fr lo 41 [(0, rv x0), (1, .int x1), (2, rv x2), (3, .int x3), (4, .int x4)] [] h Q := by
  unfold bX12_functionThere_41 at hq
  refine x_aload_n 0 dX12_functionThere_41 rfl ?_
  refine x_bipush (v := 9) dX12_functionThere_42 (by decide) ?_
  refine x_iload_n 1 dX12_functionThere_44 rfl ?_
  obtain ⟨g1, hq⟩ := hq
  obtain ⟨g2, g3, hq⟩ := hq
  refine x_callV (Yc := YX12_refuse) (as := [.int 9, .int x1]) (st := []) q4095 mvX12_refuse g1 rfl dX12_functionThere_45 (xle (xal1 (rv_cat _) (xal1 rfl (xal1 rfl xal0))) (by decide)) (xfr g2) (xlo xsw0 (by decide) g3) (xKv hq (fun h4 hq e6 => ?_) (fun _ _ q _ => q))
  replace hq := hq e6
  exact uX12_functionThere_48 hq
set_option maxRecDepth 100000 in
def bX12_functionThere_26 (G : xG) (fr lo : Nat) (x0 : Nat) (x1 : Int32) (x2 : Nat) (x3 : Int32) (x4 : Int32) (h : xH) (Q : Outcome → xH → Prop) : Prop := ((x3 = (-1) → bX12_functionThere_48 G fr lo x0 x1 x2 x3 x4 h Q) ∧ (¬ x3 = (-1) → tg h x0 = 13 ∧ tg h (fR h x0 3105) = 100 ∧ vp_in x3 (ln h (fR h x0 3105)) ∧ (((aI h (fR h x0 3105) (Int32.toNatClampNeg x3)) = (-1) → bX12_functionThere_48 G fr lo x0 x1 x2 x3 x4 h Q) ∧ (¬ (aI h (fR h x0 3105) (Int32.toNatClampNeg x3)) = (-1) → bX12_functionThere_41 G fr lo x0 x1 x2 x3 x4 h Q))))
set_option maxRecDepth 100000 in
theorem uX12_functionThere_26 {G : xG} {fr lo : Nat} {x0 : Nat} {x1 : Int32} {x2 : Nat} {x3 : Int32} {x4 : Int32} {h : xH} {Q : Outcome → xH → Prop} (hq : bX12_functionThere_26 G fr lo x0 x1 x2 x3 x4 h Q) : xP G YX12_functionThere fr lo 26 [(0, rv x0), (1, .int x1), (2, rv x2), (3, .int x3), (4, .int x4)] [] h Q := by
  unfold bX12_functionThere_26 at hq
  refine x_iload_n 3 dX12_functionThere_26 rfl ?_
  refine x_iconst (v := (-1)) dX12_functionThere_27 (by decide) ?_
  refine x_icmp_eq (tgt := 48) dX12_functionThere_28 (by decide) (fun c1 => ?_) (fun c1 => ?_)
  · replace hq := hq.1 c1
    exact uX12_functionThere_48 hq
  · replace hq := hq.2 c1
    refine x_aload_n 0 dX12_functionThere_31 rfl ?_
    obtain ⟨g2, hq⟩ := hq
    refine x_get (v := rv (fR h x0 3105)) fdX12_79 dX12_functionThere_32 g2 rfl ?_
    refine x_iload_n 3 dX12_functionThere_35 rfl ?_
    obtain ⟨g3, hq⟩ := hq
    obtain ⟨i4, hq⟩ := hq
    refine x_iald 0 (Or.inl rfl) g3 i4 dX12_functionThere_36 ?_
    refine x_iconst (v := (-1)) dX12_functionThere_37 (by decide) ?_
    refine x_icmp_eq (tgt := 48) dX12_functionThere_38 (by decide) (fun c5 => ?_) (fun c5 => ?_)
    · replace hq := hq.1 c5
      exact uX12_functionThere_48 hq
    · replace hq := hq.2 c5
      exact uX12_functionThere_41 hq
set_option maxRecDepth 100000 in
def bX12_functionThere_14 (G : xG) (fr lo : Nat) (x0 : Nat) (x1 : Int32) (x2 : Nat) (x3 : Int32) (s0 : Int32) (h : xH) (Q : Outcome → xH → Prop) : Prop := ((¬ x3 = (-1) → bX12_functionThere_26 G fr lo x0 x1 x2 x3 s0 h Q) ∧ (x3 = (-1) → ((s0 = 0 → bX12_functionThere_41 G fr lo x0 x1 x2 x3 s0 h Q) ∧ (¬ s0 = 0 → bX12_functionThere_26 G fr lo x0 x1 x2 x3 s0 h Q))))
set_option maxRecDepth 100000 in
theorem uX12_functionThere_14 {G : xG} {fr lo : Nat} {x0 : Nat} {x1 : Int32} {x2 : Nat} {x3 : Int32} {s0 : Int32} {h : xH} {Q : Outcome → xH → Prop} (hq : bX12_functionThere_14 G fr lo x0 x1 x2 x3 s0 h Q) : xP G YX12_functionThere fr lo 14 [(0, rv x0), (1, .int x1), (2, rv x2), (3, .int x3)] [.int s0] h Q := by
  unfold bX12_functionThere_14 at hq
  refine x_istore (lv' := [(4, .int s0), (0, rv x0), (1, .int x1), (2, rv x2), (3, .int x3)]) dX12_functionThere_14 (by decide) rfl ?_
  refine x_iload_n 4 dX12_functionThere_16 rfl ?_
  refine x_iconst (v := (-1)) dX12_functionThere_17 (by decide) ?_
  refine x_icmp_ne (tgt := 26) dX12_functionThere_18 (by decide) (fun c1 => ?_) (fun c1 => ?_)
  · replace hq := hq.1 c1
    refine xP.pick (lv' := [(0, rv x0), (1, .int x1), (2, rv x2), (3, .int x3), (4, .int s0)]) [1, 2, 3, 4, 0] rfl ?_
    exact uX12_functionThere_26 hq
  · replace hq := hq.2 c1
    refine x_iload 0 dX12_functionThere_21 rfl ?_
    refine x_if_eq (tgt := 41) dX12_functionThere_23 (by decide) (fun c2 => ?_) (fun c2 => ?_)
    · replace hq := hq.1 c2
      refine xP.pick (lv' := [(0, rv x0), (1, .int x1), (2, rv x2), (3, .int x3), (4, .int s0)]) [1, 2, 3, 4, 0] rfl ?_
      exact uX12_functionThere_41 hq
    · replace hq := hq.2 c2
      refine xP.pick (lv' := [(0, rv x0), (1, .int x1), (2, rv x2), (3, .int x3), (4, .int s0)]) [1, 2, 3, 4, 0] rfl ?_
      exact uX12_functionThere_26 hq
set_option maxRecDepth 100000 in
def bX12_functionThere (G : xG) (fr lo : Nat) (x0 : Nat) (x1 : Int32) (x2 : Nat) (x3 : Int32) (h : xH) (Q : Outcome → xH → Prop) : Prop := tg h x2 = 24 ∧ (((fI h x2 5903) < 21 → bX12_functionThere_14 G fr lo x0 x1 x2 x3 0 h Q) ∧ (¬ (fI h x2 5903) < 21 → bX12_functionThere_14 G fr lo x0 x1 x2 x3 1 h Q))
set_option maxRecDepth 100000 in
theorem uX12_functionThere {G : xG} {fr lo : Nat} {x0 : Nat} {x1 : Int32} {x2 : Nat} {x3 : Int32} {h : xH} {Q : Outcome → xH → Prop} (hq : bX12_functionThere G fr lo x0 x1 x2 x3 h Q) : xP G YX12_functionThere fr lo 0 [(0, rv x0), (1, .int x1), (2, rv x2), (3, .int x3)] [] h Q := by
  unfold bX12_functionThere at hq
  refine x_aload_n 2 dX12_functionThere_0 rfl ?_
  obtain ⟨g1, hq⟩ := hq
  refine x_get (v := .int (fI h x2 5903)) fdX12_632 dX12_functionThere_1 g1 rfl ?_
  refine x_bipush (v := 21) dX12_functionThere_4 (by decide) ?_
  refine x_icmp_lt (tgt := 13) dX12_functionThere_6 (by decide) (fun c2 => ?_) (fun c2 => ?_)
  · replace hq := hq.1 c2
    refine x_iconst (v := 0) dX12_functionThere_13 (by decide) ?_
    exact uX12_functionThere_14 hq
  · replace hq := hq.2 c2
    refine x_iconst (v := 1) dX12_functionThere_9 (by decide) ?_
    refine x_goto (tgt := 14) dX12_functionThere_10 (by decide) ?_
    exact uX12_functionThere_14 hq
theorem rX12_functionThere {G : xG} {fr lo : Nat} {x0 : Nat} {x1 : Int32} {x2 : Nat} {x3 : Int32} {h : xH} {Q : Outcome → xH → Prop} (hq : bX12_functionThere G fr lo x0 x1 x2 x3 h Q) : xR G YX12_functionThere fr lo [rv x0, .int x1, rv x2, .int x3] h Q := by
  show xP _ _ _ _ _ (lv_args 0 _) _ _ _
  rw [show lv_args 0 [rv x0, .int x1, rv x2, .int x3] = [(0, rv x0), (1, .int x1), (2, rv x2), (3, .int x3)] from (xla1 (rv_cat _) (xla1 rfl (xla1 (rv_cat _) (xla1 rfl xla0))))]
  exact uX12_functionThere hq
set_option maxRecDepth 100000 in
theorem dX12_fileArgument_0 : decode cX12_fileArgument 0 = .ok (.aload_n 0, 1) := by decide +kernel
set_option maxRecDepth 100000 in
theorem dX12_fileArgument_1 : decode cX12_fileArgument 1 = .ok (.iload_n 1, 1) := by decide +kernel
set_option maxRecDepth 100000 in
theorem dX12_fileArgument_2 : decode cX12_fileArgument 2 = .ok (.invokevirtual 1031, 3) := by decide +kernel
set_option maxRecDepth 100000 in
theorem dX12_fileArgument_5 : decode cX12_fileArgument 5 = .ok (.astore_n 2, 1) := by decide +kernel
set_option maxRecDepth 100000 in
theorem dX12_fileArgument_6 : decode cX12_fileArgument 6 = .ok (.aload_n 2, 1) := by decide +kernel
set_option maxRecDepth 100000 in
theorem dX12_fileArgument_7 : decode cX12_fileArgument 7 = .ok (.ifnonnull 21, 3) := by decide +kernel
set_option maxRecDepth 100000 in
theorem dX12_fileArgument_10 : decode cX12_fileArgument 10 = .ok (.aload_n 0, 1) := by decide +kernel
set_option maxRecDepth 100000 in
theorem dX12_fileArgument_11 : decode cX12_fileArgument 11 = .ok (.iload_n 1, 1) := by decide +kernel
set_option maxRecDepth 100000 in
theorem dX12_fileArgument_12 : decode cX12_fileArgument 12 = .ok (.invokevirtual 989, 3) := by decide +kernel
set_option maxRecDepth 100000 in
theorem dX12_fileArgument_15 : decode cX12_fileArgument 15 = .ok (.pop, 1) := by decide +kernel
set_option maxRecDepth 100000 in
theorem dX12_fileArgument_16 : decode cX12_fileArgument 16 = .ok (.aload_n 0, 1) := by decide +kernel
set_option maxRecDepth 100000 in
theorem dX12_fileArgument_17 : decode cX12_fileArgument 17 = .ok (.bipush 7, 2) := by decide +kernel
set_option maxRecDepth 100000 in
theorem dX12_fileArgument_19 : decode cX12_fileArgument 19 = .ok (.aload_n 0, 1) := by decide +kernel
set_option maxRecDepth 100000 in
theorem dX12_fileArgument_20 : decode cX12_fileArgument 20 = .ok (.getfield 70, 3) := by decide +kernel
set_option maxRecDepth 100000 in
theorem dX12_fileArgument_23 : decode cX12_fileArgument 23 = .ok (.iload_n 1, 1) := by decide +kernel
set_option maxRecDepth 100000 in
theorem dX12_fileArgument_24 : decode cX12_fileArgument 24 = .ok (.iaload, 1) := by decide +kernel
set_option maxRecDepth 100000 in
theorem dX12_fileArgument_25 : decode cX12_fileArgument 25 = .ok (.invokevirtual 570, 3) := by decide +kernel
set_option maxRecDepth 100000 in
theorem dX12_fileArgument_28 : decode cX12_fileArgument 28 = .ok (.aload_n 2, 1) := by decide +kernel
set_option maxRecDepth 100000 in
theorem dX12_fileArgument_29 : decode cX12_fileArgument 29 = .ok (.areturn, 1) := by decide +kernel
set_option maxRecDepth 100000 in
def bX12_fileArgument_28 (G : xG) (fr lo : Nat) (x2 : Nat) (h : xH) (Q : Outcome → xH → Prop) : Prop := Q (.returned (some (rv x2))) h
set_option maxRecDepth 100000 in
theorem uX12_fileArgument_28 {G : xG} {fr lo : Nat} {x2 : Nat} {h : xH} {Q : Outcome → xH → Prop} (hq : bX12_fileArgument_28 G fr lo x2 h Q) : xP G YX12_fileArgument fr lo 28 [(2, rv x2)] [] h Q := by
  unfold bX12_fileArgument_28 at hq
  refine x_aload_n 0 dX12_fileArgument_28 rfl ?_
  exact x_aret rfl xty_O dX12_fileArgument_29 hq
set_option maxRecDepth 100000 in
def bX12_fileArgument (G : xG) (fr lo : Nat) (x0 : Nat) (x1 : Int32) (h : xH) (Q : Outcome → xH → Prop) : Prop := tg h x0 = 13 ∧ 1 ≤ fr ∧ 16 ≤ lo ∧ xRr G YX12_fileOf (fr - 1) (lo - 16) [rv x0, .int x1] h (fun x5 h4 => xext h h4 → ((¬ x5 = 0 → bX12_fileArgument_28 G fr lo x5 h4 Q) ∧ (x5 = 0 → 1 ≤ fr ∧ 15 ≤ lo ∧ xRr G YX12_checkE (fr - 1) (lo - 15) [rv x0, .int x1] h4 (fun x12 h11 => xext h4 h11 → tg h11 (fR h11 x0 3102) = 100 ∧ vp_in x1 (ln h11 (fR h11 x0 3102)) ∧ 1 ≤ fr ∧ 14 ≤ lo ∧ xRv G YX12_refuse (fr - 1) (lo - 14) [rv x0, .int 7, .int (aI h11 (fR h11 x0 3102) (Int32.toNatClampNeg x1))] h11 (fun h19 => xext h11 h19 → bX12_fileArgument_28 G fr lo x5 h19 Q) (fun r h2 => Q (.threw r) h2)) (fun r h2 => Q (.threw r) h2)))) (fun r h2 => Q (.threw r) h2)
set_option maxRecDepth 100000 in
theorem uX12_fileArgument {G : xG} {fr lo : Nat} {x0 : Nat} {x1 : Int32} {h : xH} {Q : Outcome → xH → Prop} (hq : bX12_fileArgument G fr lo x0 x1 h Q) : xP G YX12_fileArgument fr lo 0 [(0, rv x0), (1, .int x1)] [] h Q := by
  unfold bX12_fileArgument at hq
  refine x_aload_n 0 dX12_fileArgument_0 rfl ?_
  refine x_iload_n 1 dX12_fileArgument_1 rfl ?_
  obtain ⟨g1, hq⟩ := hq
  obtain ⟨g2, g3, hq⟩ := hq
  refine x_callV (Yc := YX12_fileOf) (as := [.int x1]) (st := []) q4344 mvX12_fileOf g1 rfl dX12_fileArgument_2 (xle (xal1 (rv_cat _) (xal1 rfl xal0)) (by decide)) (xfr g2) (xlo xsw0 (by decide) g3) (xKr hq (fun x5 h4 hq e6 => ?_) (fun _ _ q _ => q))
  replace hq := hq e6
  refine x_astore_n (lv' := [(2, rv x5), (0, rv x0), (1, .int x1)]) dX12_fileArgument_5 (by decide) rfl ?_
  refine x_aload_n 0 dX12_fileArgument_6 rfl ?_
  refine x_ifnonnull (tgt := 28) dX12_fileArgument_7 (by decide) (fun c7 => ?_) (fun c7 => ?_)
  · replace hq := hq.1 c7
    refine xP.pick (lv' := [(2, rv x5)]) [0] rfl ?_
    exact uX12_fileArgument_28 hq
  · replace hq := hq.2 c7
    refine x_aload_n 1 dX12_fileArgument_10 rfl ?_
    refine x_iload_n 2 dX12_fileArgument_11 rfl ?_
    have t8 : tg h4 x0 = 13 := e6.tg g1 (by decide)
    obtain ⟨g9, g10, hq⟩ := hq
    refine x_callV (Yc := YX12_checkE) (as := [.int x1]) (st := []) q4308 mvX12_checkE t8 rfl dX12_fileArgument_12 (xle (xal1 (rv_cat _) (xal1 rfl xal0)) (by decide)) (xfr g9) (xlo xsw0 (by decide) g10) (xKr hq (fun x12 h11 hq e13 => ?_) (fun _ _ q _ => q))
    replace hq := hq e13
    refine x_pop dX12_fileArgument_15 (rv_cat _) ?_
    refine x_aload_n 1 dX12_fileArgument_16 rfl ?_
    refine x_bipush (v := 7) dX12_fileArgument_17 (by decide) ?_
    refine x_aload_n 1 dX12_fileArgument_19 rfl ?_
    have t14 : tg h11 x0 = 13 := e13.tg t8 (by decide)
    refine x_get (v := rv (fR h11 x0 3102)) fdX12_70 dX12_fileArgument_20 t14 rfl ?_
    refine x_iload_n 2 dX12_fileArgument_23 rfl ?_
    obtain ⟨g15, hq⟩ := hq
    obtain ⟨i16, hq⟩ := hq
    refine x_iald 0 (Or.inl rfl) g15 i16 dX12_fileArgument_24 ?_
    obtain ⟨g17, g18, hq⟩ := hq
    refine x_callV (Yc := YX12_refuse) (as := [.int 7, .int (aI h11 (fR h11 x0 3102) (Int32.toNatClampNeg x1))]) (st := []) q4095 mvX12_refuse t14 rfl dX12_fileArgument_25 (xle (xal1 (rv_cat _) (xal1 rfl (xal1 rfl xal0))) (by decide)) (xfr g17) (xlo xsw0 (by decide) g18) (xKv hq (fun h19 hq e21 => ?_) (fun _ _ q _ => q))
    replace hq := hq e21
    refine xP.pick (lv' := [(2, rv x5)]) [0] rfl ?_
    exact uX12_fileArgument_28 hq
theorem rX12_fileArgument {G : xG} {fr lo : Nat} {x0 : Nat} {x1 : Int32} {h : xH} {Q : Outcome → xH → Prop} (hq : bX12_fileArgument G fr lo x0 x1 h Q) : xR G YX12_fileArgument fr lo [rv x0, .int x1] h Q := by
  show xP _ _ _ _ _ (lv_args 0 _) _ _ _
  rw [show lv_args 0 [rv x0, .int x1] = [(0, rv x0), (1, .int x1)] from (xla1 (rv_cat _) (xla1 rfl xla0))]
  exact uX12_fileArgument hq
set_option maxRecDepth 100000 in
theorem dX12_fileOf_0 : decode cX12_fileOf 0 = .ok (.aload_n 0, 1) := by decide +kernel
set_option maxRecDepth 100000 in
theorem dX12_fileOf_1 : decode cX12_fileOf 1 = .ok (.iload_n 1, 1) := by decide +kernel
set_option maxRecDepth 100000 in
theorem dX12_fileOf_2 : decode cX12_fileOf 2 = .ok (.invokevirtual 1022, 3) := by decide +kernel
set_option maxRecDepth 100000 in
theorem dX12_fileOf_5 : decode cX12_fileOf 5 = .ok (.istore_n 2, 1) := by decide +kernel
set_option maxRecDepth 100000 in
theorem dX12_fileOf_6 : decode cX12_fileOf 6 = .ok (.iload_n 2, 1) := by decide +kernel
set_option maxRecDepth 100000 in
theorem dX12_fileOf_7 : decode cX12_fileOf 7 = .ok (.iconst (-1), 1) := by decide +kernel
set_option maxRecDepth 100000 in
theorem dX12_fileOf_8 : decode cX12_fileOf 8 = .ok (.if_icmp .eq 13, 3) := by decide +kernel
set_option maxRecDepth 100000 in
theorem dX12_fileOf_11 : decode cX12_fileOf 11 = .ok (.aload_n 0, 1) := by decide +kernel
set_option maxRecDepth 100000 in
theorem dX12_fileOf_12 : decode cX12_fileOf 12 = .ok (.getfield 73, 3) := by decide +kernel
set_option maxRecDepth 100000 in
theorem dX12_fileOf_15 : decode cX12_fileOf 15 = .ok (.iload_n 2, 1) := by decide +kernel
set_option maxRecDepth 100000 in
theorem dX12_fileOf_16 : decode cX12_fileOf 16 = .ok (.iaload, 1) := by decide +kernel
set_option maxRecDepth 100000 in
theorem dX12_fileOf_17 : decode cX12_fileOf 17 = .ok (.iconst (-1), 1) := by decide +kernel
set_option maxRecDepth 100000 in
theorem dX12_fileOf_18 : decode cX12_fileOf 18 = .ok (.if_icmp .eq 5, 3) := by decide +kernel
set_option maxRecDepth 100000 in
theorem dX12_fileOf_21 : decode cX12_fileOf 21 = .ok (.aconst_null, 1) := by decide +kernel
set_option maxRecDepth 100000 in
theorem dX12_fileOf_22 : decode cX12_fileOf 22 = .ok (.areturn, 1) := by decide +kernel
set_option maxRecDepth 100000 in
theorem dX12_fileOf_23 : decode cX12_fileOf 23 = .ok (.aload_n 0, 1) := by decide +kernel
set_option maxRecDepth 100000 in
theorem dX12_fileOf_24 : decode cX12_fileOf 24 = .ok (.getfield 134, 3) := by decide +kernel
set_option maxRecDepth 100000 in
theorem dX12_fileOf_27 : decode cX12_fileOf 27 = .ok (.invokevirtual 554, 3) := by decide +kernel
set_option maxRecDepth 100000 in
theorem dX12_fileOf_30 : decode cX12_fileOf 30 = .ok (.iconst 1, 1) := by decide +kernel
set_option maxRecDepth 100000 in
theorem dX12_fileOf_31 : decode cX12_fileOf 31 = .ok (.isub, 1) := by decide +kernel
set_option maxRecDepth 100000 in
theorem dX12_fileOf_32 : decode cX12_fileOf 32 = .ok (.istore_n 3, 1) := by decide +kernel
set_option maxRecDepth 100000 in
theorem dX12_fileOf_33 : decode cX12_fileOf 33 = .ok (.iload_n 3, 1) := by decide +kernel
set_option maxRecDepth 100000 in
theorem dX12_fileOf_34 : decode cX12_fileOf 34 = .ok (.ifCond .lt 91, 3) := by decide +kernel
set_option maxRecDepth 100000 in
theorem dX12_fileOf_37 : decode cX12_fileOf 37 = .ok (.aload_n 0, 1) := by decide +kernel
set_option maxRecDepth 100000 in
theorem dX12_fileOf_38 : decode cX12_fileOf 38 = .ok (.aload_n 0, 1) := by decide +kernel
set_option maxRecDepth 100000 in
theorem dX12_fileOf_39 : decode cX12_fileOf 39 = .ok (.getfield 134, 3) := by decide +kernel
set_option maxRecDepth 100000 in
theorem dX12_fileOf_42 : decode cX12_fileOf 42 = .ok (.iload_n 3, 1) := by decide +kernel
set_option maxRecDepth 100000 in
theorem dX12_fileOf_43 : decode cX12_fileOf 43 = .ok (.invokevirtual 556, 3) := by decide +kernel
set_option maxRecDepth 100000 in
theorem dX12_fileOf_46 : decode cX12_fileOf 46 = .ok (.checkcast 131, 3) := by decide +kernel
set_option maxRecDepth 100000 in
theorem dX12_fileOf_49 : decode cX12_fileOf 49 = .ok (.aload_n 0, 1) := by decide +kernel
set_option maxRecDepth 100000 in
theorem dX12_fileOf_50 : decode cX12_fileOf 50 = .ok (.getfield 32, 3) := by decide +kernel
set_option maxRecDepth 100000 in
theorem dX12_fileOf_53 : decode cX12_fileOf 53 = .ok (.aload_n 0, 1) := by decide +kernel
set_option maxRecDepth 100000 in
theorem dX12_fileOf_54 : decode cX12_fileOf 54 = .ok (.getfield 70, 3) := by decide +kernel
set_option maxRecDepth 100000 in
theorem dX12_fileOf_57 : decode cX12_fileOf 57 = .ok (.iload_n 2, 1) := by decide +kernel
set_option maxRecDepth 100000 in
theorem dX12_fileOf_58 : decode cX12_fileOf 58 = .ok (.iaload, 1) := by decide +kernel
set_option maxRecDepth 100000 in
theorem dX12_fileOf_59 : decode cX12_fileOf 59 = .ok (.iaload, 1) := by decide +kernel
set_option maxRecDepth 100000 in
theorem dX12_fileOf_60 : decode cX12_fileOf 60 = .ok (.invokevirtual 566, 3) := by decide +kernel
set_option maxRecDepth 100000 in
theorem dX12_fileOf_63 : decode cX12_fileOf 63 = .ok (.astore 4, 2) := by decide +kernel
set_option maxRecDepth 100000 in
theorem dX12_fileOf_65 : decode cX12_fileOf 65 = .ok (.aload 4, 2) := by decide +kernel
set_option maxRecDepth 100000 in
theorem dX12_fileOf_67 : decode cX12_fileOf 67 = .ok (.ifnonnull 6, 3) := by decide +kernel
set_option maxRecDepth 100000 in
theorem dX12_fileOf_70 : decode cX12_fileOf 70 = .ok (.goto 49, 3) := by decide +kernel
set_option maxRecDepth 100000 in
theorem dX12_fileOf_73 : decode cX12_fileOf 73 = .ok (.aload 4, 2) := by decide +kernel
set_option maxRecDepth 100000 in
theorem dX12_fileOf_75 : decode cX12_fileOf 75 = .ok (.getfield 577, 3) := by decide +kernel
set_option maxRecDepth 100000 in
theorem dX12_fileOf_78 : decode cX12_fileOf 78 = .ok (.iconst 3, 1) := by decide +kernel
set_option maxRecDepth 100000 in
theorem dX12_fileOf_79 : decode cX12_fileOf 79 = .ok (.if_icmp .ne 16, 3) := by decide +kernel
set_option maxRecDepth 100000 in
theorem dX12_fileOf_82 : decode cX12_fileOf 82 = .ok (.aload 4, 2) := by decide +kernel
set_option maxRecDepth 100000 in
theorem dX12_fileOf_84 : decode cX12_fileOf 84 = .ok (.getfield 612, 3) := by decide +kernel
set_option maxRecDepth 100000 in
theorem dX12_fileOf_87 : decode cX12_fileOf 87 = .ok (.getfield 845, 3) := by decide +kernel
set_option maxRecDepth 100000 in
theorem dX12_fileOf_90 : decode cX12_fileOf 90 = .ok (.bipush 10, 2) := by decide +kernel
set_option maxRecDepth 100000 in
theorem dX12_fileOf_92 : decode cX12_fileOf 92 = .ok (.if_icmp .eq 5, 3) := by decide +kernel
set_option maxRecDepth 100000 in
theorem dX12_fileOf_95 : decode cX12_fileOf 95 = .ok (.aconst_null, 1) := by decide +kernel
set_option maxRecDepth 100000 in
theorem dX12_fileOf_96 : decode cX12_fileOf 96 = .ok (.areturn, 1) := by decide +kernel
set_option maxRecDepth 100000 in
theorem dX12_fileOf_97 : decode cX12_fileOf 97 = .ok (.aload_n 0, 1) := by decide +kernel
set_option maxRecDepth 100000 in
theorem dX12_fileOf_98 : decode cX12_fileOf 98 = .ok (.getfield 102, 3) := by decide +kernel
set_option maxRecDepth 100000 in
theorem dX12_fileOf_101 : decode cX12_fileOf 101 = .ok (.iload_n 2, 1) := by decide +kernel
set_option maxRecDepth 100000 in
theorem dX12_fileOf_102 : decode cX12_fileOf 102 = .ok (.aload 4, 2) := by decide +kernel
set_option maxRecDepth 100000 in
theorem dX12_fileOf_104 : decode cX12_fileOf 104 = .ok (.aastore, 1) := by decide +kernel
set_option maxRecDepth 100000 in
theorem dX12_fileOf_105 : decode cX12_fileOf 105 = .ok (.aload_n 0, 1) := by decide +kernel
set_option maxRecDepth 100000 in
theorem dX12_fileOf_106 : decode cX12_fileOf 106 = .ok (.getfield 96, 3) := by decide +kernel
set_option maxRecDepth 100000 in
theorem dX12_fileOf_109 : decode cX12_fileOf 109 = .ok (.iload_n 2, 1) := by decide +kernel
set_option maxRecDepth 100000 in
theorem dX12_fileOf_110 : decode cX12_fileOf 110 = .ok (.aload 4, 2) := by decide +kernel
set_option maxRecDepth 100000 in
theorem dX12_fileOf_112 : decode cX12_fileOf 112 = .ok (.getfield 612, 3) := by decide +kernel
set_option maxRecDepth 100000 in
theorem dX12_fileOf_115 : decode cX12_fileOf 115 = .ok (.aastore, 1) := by decide +kernel
set_option maxRecDepth 100000 in
theorem dX12_fileOf_116 : decode cX12_fileOf 116 = .ok (.aload 4, 2) := by decide +kernel
set_option maxRecDepth 100000 in
theorem dX12_fileOf_118 : decode cX12_fileOf 118 = .ok (.areturn, 1) := by decide +kernel
set_option maxRecDepth 100000 in
theorem dX12_fileOf_119 : decode cX12_fileOf 119 = .ok (.iinc 3 (-1), 3) := by decide +kernel
set_option maxRecDepth 100000 in
theorem dX12_fileOf_122 : decode cX12_fileOf 122 = .ok (.goto (-89), 3) := by decide +kernel
set_option maxRecDepth 100000 in
theorem dX12_fileOf_125 : decode cX12_fileOf 125 = .ok (.aconst_null, 1) := by decide +kernel
set_option maxRecDepth 100000 in
theorem dX12_fileOf_126 : decode cX12_fileOf 126 = .ok (.areturn, 1) := by decide +kernel
def lX12_fileOf_33 (G : xG) (fr lo : Nat) (x0 : Nat) (x2 : Int32) (x3 : Int32) (h : xH) (Q : Outcome → xH → Prop) : Prop := xP G YX12_fileOf fr lo 33 [(0, rv x0), (2, .int x2), (3, .int x3)] [] h Q
set_option maxRecDepth 100000 in
def bX12_fileOf_95 (G : xG) (fr lo : Nat) (h : xH) (Q : Outcome → xH → Prop) : Prop := Q (.returned (some (rv 0))) h
set_option maxRecDepth 100000 in
theorem uX12_fileOf_95 {G : xG} {fr lo : Nat} {h : xH} {Q : Outcome → xH → Prop} (hq : bX12_fileOf_95 G fr lo h Q) : xP G YX12_fileOf fr lo 95 [] [] h Q := by
  unfold bX12_fileOf_95 at hq
  refine x_null dX12_fileOf_95 ?_
  exact x_aret rfl xty_O dX12_fileOf_96 hq
set_option maxRecDepth 100000 in
def bX12_fileOf_33 (G : xG) (fr lo : Nat) (x0 : Nat) (x2 : Int32) (x3 : Int32) (h : xH) (Q : Outcome → xH → Prop) : Prop := ((x3 < 0 → Q (.returned (some (rv 0))) h) ∧ (¬ x3 < 0 → tg h x0 = 13 ∧ tg h (fR h x0 3122) = 29 ∧ 1 ≤ fr ∧ 14 ≤ lo ∧ xRr G YJ2_get (fr - 1) (lo - 14) [rv (fR h x0 3122), .int x3] h (fun x7 h6 => xext h h6 → tg h6 x7 = 29 ∧ tg h6 (fR h6 x0 3102) = 100 ∧ vp_in x2 (ln h6 (fR h6 x0 3102)) ∧ tg h6 (fR h6 x0 3084) = 100 ∧ vp_in (aI h6 (fR h6 x0 3102) (Int32.toNatClampNeg x2)) (ln h6 (fR h6 x0 3084)) ∧ 1 ≤ fr ∧ 15 ≤ lo ∧ xRr G YX12_inRegion (fr - 1) (lo - 15) [rv x0, rv x7, .int (aI h6 (fR h6 x0 3084) (Int32.toNatClampNeg (aI h6 (fR h6 x0 3102) (Int32.toNatClampNeg x2))))] h6 (fun x18 h17 => xext h6 h17 → ((¬ x18 = 0 → tg h17 x18 = 24 ∧ ((¬ (fI h17 x18 5888) = 3 → bX12_fileOf_95 G fr lo h17 Q) ∧ ((fI h17 x18 5888) = 3 → tg h17 (fR h17 x18 5890) = 14 ∧ (((fI h17 (fR h17 x18 5890) 3328) = 10 → tg h17 (fR h17 x0 3114) = 109 ∧ vp_in x2 (ln h17 (fR h17 x0 3114)) ∧ (∀ h28 : xH, h28 = tR h17 (fR h17 x0 3114) (Int32.toNatClampNeg x2) x18 → tg h28 (fR h28 x0 3113) = 108 ∧ tg h28 (fR h28 x18 5890) = 14 ∧ vp_in x2 (ln h28 (fR h28 x0 3113)) ∧ (∀ h35 : xH, h35 = tR h28 (fR h28 x0 3113) (Int32.toNatClampNeg x2) (fR h28 x18 5890) → Q (.returned (some (rv x18))) h35))) ∧ (¬ (fI h17 (fR h17 x18 5890) 3328) = 10 → bX12_fileOf_95 G fr lo h17 Q))))) ∧ (x18 = 0 → lX12_fileOf_33 G fr lo x0 x2 (x3 + (-1)) h17 Q))) (fun r h2 => Q (.threw r) h2)) (fun r h2 => Q (.threw r) h2)))
set_option maxRecDepth 100000 in
theorem uX12_fileOf_33 {G : xG} {fr lo : Nat} {x0 : Nat} {x2 : Int32} {x3 : Int32} {h : xH} {Q : Outcome → xH → Prop} (hq : bX12_fileOf_33 G fr lo x0 x2 x3 h Q) : xP G YX12_fileOf fr lo 33 [(0, rv x0), (2, .int x2), (3, .int x3)] [] h Q := by
  unfold bX12_fileOf_33 at hq
  refine x_iload_n 2 dX12_fileOf_33 rfl ?_
  refine x_if_lt (tgt := 125) dX12_fileOf_34 (by decide) (fun c1 => ?_) (fun c1 => ?_)
  · replace hq := hq.1 c1
    refine x_null dX12_fileOf_125 ?_
    exact x_aret rfl xty_O dX12_fileOf_126 hq
  · replace hq := hq.2 c1
    refine x_aload_n 0 dX12_fileOf_37 rfl ?_
    refine x_aload_n 0 dX12_fileOf_38 rfl ?_
    obtain ⟨g2, hq⟩ := hq
    refine x_get (v := rv (fR h x0 3122)) fdX12_134 dX12_fileOf_39 g2 rfl ?_
    refine x_iload_n 2 dX12_fileOf_42 rfl ?_
    obtain ⟨g3, hq⟩ := hq
    obtain ⟨g4, g5, hq⟩ := hq
    refine x_callV (Yc := YJ2_get) (as := [.int x3]) (st := [rv x0]) q4109 mvJ2_get g3 rfl dX12_fileOf_43 (xle (xal1 (rv_cat _) (xal1 rfl xal0)) (by decide)) (xfr g4) (xlo (xsw1 (rv_cat _) xsw0) (by decide) g5) (xKr hq (fun x7 h6 hq e8 => ?_) (fun _ _ q _ => q))
    replace hq := hq e8
    obtain ⟨g9, hq⟩ := hq
    refine x_cast (ci := 28) (by decide) rfl q3245 g9 dX12_fileOf_46 ?_
    refine x_aload_n 0 dX12_fileOf_49 rfl ?_
    have t10 : tg h6 x0 = 13 := e8.tg g2 (by decide)
    refine x_get (v := rv (fR h6 x0 3084)) fdX12_32 dX12_fileOf_50 t10 rfl ?_
    refine x_aload_n 0 dX12_fileOf_53 rfl ?_
    refine x_get (v := rv (fR h6 x0 3102)) fdX12_70 dX12_fileOf_54 t10 rfl ?_
    refine x_iload_n 1 dX12_fileOf_57 rfl ?_
    obtain ⟨g11, hq⟩ := hq
    obtain ⟨i12, hq⟩ := hq
    refine x_iald 0 (Or.inl rfl) g11 i12 dX12_fileOf_58 ?_
    obtain ⟨g13, hq⟩ := hq
    obtain ⟨i14, hq⟩ := hq
    refine x_iald 0 (Or.inl rfl) g13 i14 dX12_fileOf_59 ?_
    obtain ⟨g15, g16, hq⟩ := hq
    refine x_callV (Yc := YX12_inRegion) (as := [rv x7, .int (aI h6 (fR h6 x0 3084) (Int32.toNatClampNeg (aI h6 (fR h6 x0 3102) (Int32.toNatClampNeg x2))))]) (st := []) q4114 mvX12_inRegion t10 rfl dX12_fileOf_60 (xle (xal1 (rv_cat _) (xal1 (rv_cat _) (xal1 rfl xal0))) (by decide)) (xfr g15) (xlo xsw0 (by decide) g16) (xKr hq (fun x18 h17 hq e19 => ?_) (fun _ _ q _ => q))
    replace hq := hq e19
    refine x_astore (lv' := [(4, rv x18), (0, rv x0), (2, .int x2), (3, .int x3)]) dX12_fileOf_63 (by decide) rfl ?_
    refine x_aload 0 dX12_fileOf_65 rfl ?_
    refine x_ifnonnull (tgt := 73) dX12_fileOf_67 (by decide) (fun c20 => ?_) (fun c20 => ?_)
    · replace hq := hq.1 c20
      refine x_aload 0 dX12_fileOf_73 rfl ?_
      obtain ⟨g21, hq⟩ := hq
      refine x_get (v := .int (fI h17 x18 5888)) fdX12_577 dX12_fileOf_75 g21 rfl ?_
      refine x_iconst (v := 3) dX12_fileOf_78 (by decide) ?_
      refine x_icmp_ne (tgt := 95) dX12_fileOf_79 (by decide) (fun c22 => ?_) (fun c22 => ?_)
      · replace hq := hq.1 c22
        refine xP.pick (lv' := []) [] rfl ?_
        exact uX12_fileOf_95 hq
      · replace hq := hq.2 c22
        refine x_aload 0 dX12_fileOf_82 rfl ?_
        refine x_get (v := rv (fR h17 x18 5890)) fdX12_612 dX12_fileOf_84 g21 rfl ?_
        obtain ⟨g23, hq⟩ := hq
        refine x_get (v := .int (fI h17 (fR h17 x18 5890) 3328)) fdX12_845 dX12_fileOf_87 g23 rfl ?_
        refine x_bipush (v := 10) dX12_fileOf_90 (by decide) ?_
        refine x_icmp_eq (tgt := 97) dX12_fileOf_92 (by decide) (fun c24 => ?_) (fun c24 => ?_)
        · replace hq := hq.1 c24
          refine x_aload_n 1 dX12_fileOf_97 rfl ?_
          have t25 : tg h17 x0 = 13 := e19.tg t10 (by decide)
          refine x_get (v := rv (fR h17 x0 3114)) fdX12_102 dX12_fileOf_98 t25 rfl ?_
          refine x_iload_n 2 dX12_fileOf_101 rfl ?_
          refine x_aload 0 dX12_fileOf_102 rfl ?_
          obtain ⟨g26, hq⟩ := hq
          obtain ⟨i27, hq⟩ := hq
          obtain ⟨h28, e29⟩ : ∃ y, y = tR h17 (fR h17 x0 3114) (Int32.toNatClampNeg x2) x18 := ⟨_, rfl⟩
          replace hq := hq h28 e29
          refine x_aast 9 23 as_9_23 g26 (Or.inl (by rw [g26]; rfl)) g21 i27 dX12_fileOf_104 e29 ?_
          refine x_aload_n 1 dX12_fileOf_105 rfl ?_
          have t30 : tg h28 x0 = 13 := by rw [e29]; exact t25
          refine x_get (v := rv (fR h28 x0 3113)) fdX12_96 dX12_fileOf_106 t30 rfl ?_
          refine x_iload_n 2 dX12_fileOf_109 rfl ?_
          refine x_aload 0 dX12_fileOf_110 rfl ?_
          have t31 : tg h28 x18 = 24 := by rw [e29]; exact g21
          refine x_get (v := rv (fR h28 x18 5890)) fdX12_612 dX12_fileOf_112 t31 rfl ?_
          obtain ⟨g32, hq⟩ := hq
          obtain ⟨g33, hq⟩ := hq
          obtain ⟨i34, hq⟩ := hq
          obtain ⟨h35, e36⟩ : ∃ y, y = tR h28 (fR h28 x0 3113) (Int32.toNatClampNeg x2) (fR h28 x18 5890) := ⟨_, rfl⟩
          replace hq := hq h35 e36
          refine x_aast 8 13 as_8_13 g32 (Or.inl (by rw [g32]; rfl)) g33 i34 dX12_fileOf_115 e36 ?_
          refine x_aload 0 dX12_fileOf_116 rfl ?_
          exact x_aret rfl xty_O dX12_fileOf_118 hq
        · replace hq := hq.2 c24
          refine xP.pick (lv' := []) [] rfl ?_
          exact uX12_fileOf_95 hq
    · replace hq := hq.2 c20
      refine x_goto (tgt := 119) dX12_fileOf_70 (by decide) ?_
      refine x_iinc (lv' := [(3, .int (x3 + (-1))), (4, rv x18), (0, rv x0), (2, .int x2)]) 3 dX12_fileOf_119 rfl (by decide) rfl ?_
      refine x_goto (tgt := 33) dX12_fileOf_122 (by decide) ?_
      refine xP.pick (lv' := [(0, rv x0), (2, .int x2), (3, .int (x3 + (-1)))]) [2, 3, 0] rfl ?_
      exact hq
set_option maxRecDepth 100000 in
def bX12_fileOf_21 (G : xG) (fr lo : Nat) (h : xH) (Q : Outcome → xH → Prop) : Prop := Q (.returned (some (rv 0))) h
set_option maxRecDepth 100000 in
theorem uX12_fileOf_21 {G : xG} {fr lo : Nat} {h : xH} {Q : Outcome → xH → Prop} (hq : bX12_fileOf_21 G fr lo h Q) : xP G YX12_fileOf fr lo 21 [] [] h Q := by
  unfold bX12_fileOf_21 at hq
  refine x_null dX12_fileOf_21 ?_
  exact x_aret rfl xty_O dX12_fileOf_22 hq
set_option maxRecDepth 100000 in
def bX12_fileOf (G : xG) (fr lo : Nat) (x0 : Nat) (x1 : Int32) (h : xH) (Q : Outcome → xH → Prop) : Prop := tg h x0 = 13 ∧ 1 ≤ fr ∧ 15 ≤ lo ∧ xRi G YX12_loneVariable (fr - 1) (lo - 15) [rv x0, .int x1] h (fun x5 h4 => xext h h4 → ((x5 = (-1) → bX12_fileOf_21 G fr lo h4 Q) ∧ (¬ x5 = (-1) → tg h4 (fR h4 x0 3103) = 100 ∧ vp_in x5 (ln h4 (fR h4 x0 3103)) ∧ (((aI h4 (fR h4 x0 3103) (Int32.toNatClampNeg x5)) = (-1) → tg h4 (fR h4 x0 3122) = 29 ∧ 1 ≤ fr ∧ 12 ≤ lo ∧ xRi G YJ2_size (fr - 1) (lo - 12) [rv (fR h4 x0 3122)] h4 (fun x16 h15 => xext h4 h15 → lX12_fileOf_33 G fr lo x0 x5 (x16 - 1) h15 Q) (fun r h2 => Q (.threw r) h2)) ∧ (¬ (aI h4 (fR h4 x0 3103) (Int32.toNatClampNeg x5)) = (-1) → bX12_fileOf_21 G fr lo h4 Q))))) (fun r h2 => Q (.threw r) h2)
set_option maxRecDepth 100000 in
theorem uX12_fileOf {G : xG} {fr lo : Nat} {x0 : Nat} {x1 : Int32} {h : xH} {Q : Outcome → xH → Prop} (hq : bX12_fileOf G fr lo x0 x1 h Q) : xP G YX12_fileOf fr lo 0 [(0, rv x0), (1, .int x1)] [] h Q := by
  unfold bX12_fileOf at hq
  refine x_aload_n 0 dX12_fileOf_0 rfl ?_
  refine x_iload_n 1 dX12_fileOf_1 rfl ?_
  obtain ⟨g1, hq⟩ := hq
  obtain ⟨g2, g3, hq⟩ := hq
  refine x_callV (Yc := YX12_loneVariable) (as := [.int x1]) (st := []) q4348 mvX12_loneVariable g1 rfl dX12_fileOf_2 (xle (xal1 (rv_cat _) (xal1 rfl xal0)) (by decide)) (xfr g2) (xlo xsw0 (by decide) g3) (xKi hq (fun x5 h4 hq e6 => ?_) (fun _ _ q _ => q))
  replace hq := hq e6
  refine x_istore_n (lv' := [(2, .int x5), (0, rv x0), (1, .int x1)]) dX12_fileOf_5 (by decide) rfl ?_
  refine x_iload_n 0 dX12_fileOf_6 rfl ?_
  refine x_iconst (v := (-1)) dX12_fileOf_7 (by decide) ?_
  refine x_icmp_eq (tgt := 21) dX12_fileOf_8 (by decide) (fun c7 => ?_) (fun c7 => ?_)
  · replace hq := hq.1 c7
    refine xP.pick (lv' := []) [] rfl ?_
    exact uX12_fileOf_21 hq
  · replace hq := hq.2 c7
    refine x_aload_n 1 dX12_fileOf_11 rfl ?_
    have t8 : tg h4 x0 = 13 := e6.tg g1 (by decide)
    refine x_get (v := rv (fR h4 x0 3103)) fdX12_73 dX12_fileOf_12 t8 rfl ?_
    refine x_iload_n 0 dX12_fileOf_15 rfl ?_
    obtain ⟨g9, hq⟩ := hq
    obtain ⟨i10, hq⟩ := hq
    refine x_iald 0 (Or.inl rfl) g9 i10 dX12_fileOf_16 ?_
    refine x_iconst (v := (-1)) dX12_fileOf_17 (by decide) ?_
    refine x_icmp_eq (tgt := 23) dX12_fileOf_18 (by decide) (fun c11 => ?_) (fun c11 => ?_)
    · replace hq := hq.1 c11
      refine x_aload_n 1 dX12_fileOf_23 rfl ?_
      refine x_get (v := rv (fR h4 x0 3122)) fdX12_134 dX12_fileOf_24 t8 rfl ?_
      obtain ⟨g12, hq⟩ := hq
      obtain ⟨g13, g14, hq⟩ := hq
      refine x_callV (Yc := YJ2_size) (as := []) (st := []) q4067 mvJ2_size g12 rfl dX12_fileOf_27 (xle (xal1 (rv_cat _) xal0) (by decide)) (xfr g13) (xlo xsw0 (by decide) g14) (xKi hq (fun x16 h15 hq e17 => ?_) (fun _ _ q _ => q))
      replace hq := hq e17
      refine x_iconst (v := 1) dX12_fileOf_30 (by decide) ?_
      refine x_isub dX12_fileOf_31 ?_
      refine x_istore_n (lv' := [(3, .int (x16 - 1)), (2, .int x5), (0, rv x0), (1, .int x1)]) dX12_fileOf_32 (by decide) rfl ?_
      refine xP.pick (lv' := [(0, rv x0), (2, .int x5), (3, .int (x16 - 1))]) [2, 1, 0] rfl ?_
      exact hq
    · replace hq := hq.2 c11
      refine xP.pick (lv' := []) [] rfl ?_
      exact uX12_fileOf_21 hq
theorem rX12_fileOf {G : xG} {fr lo : Nat} {x0 : Nat} {x1 : Int32} {h : xH} {Q : Outcome → xH → Prop} (hq : bX12_fileOf G fr lo x0 x1 h Q) : xR G YX12_fileOf fr lo [rv x0, .int x1] h Q := by
  show xP _ _ _ _ _ (lv_args 0 _) _ _ _
  rw [show lv_args 0 [rv x0, .int x1] = [(0, rv x0), (1, .int x1)] from (xla1 (rv_cat _) (xla1 rfl xla0))]
  exact uX12_fileOf hq
set_option maxRecDepth 100000 in
theorem dX12_loneVariable_0 : decode cX12_loneVariable 0 = .ok (.aload_n 0, 1) := by decide +kernel
set_option maxRecDepth 100000 in
theorem dX12_loneVariable_1 : decode cX12_loneVariable 1 = .ok (.getfield 73, 3) := by decide +kernel
set_option maxRecDepth 100000 in
theorem dX12_loneVariable_4 : decode cX12_loneVariable 4 = .ok (.iload_n 1, 1) := by decide +kernel
set_option maxRecDepth 100000 in
theorem dX12_loneVariable_5 : decode cX12_loneVariable 5 = .ok (.iaload, 1) := by decide +kernel
set_option maxRecDepth 100000 in
theorem dX12_loneVariable_6 : decode cX12_loneVariable 6 = .ok (.istore_n 2, 1) := by decide +kernel
set_option maxRecDepth 100000 in
theorem dX12_loneVariable_7 : decode cX12_loneVariable 7 = .ok (.aload_n 0, 1) := by decide +kernel
set_option maxRecDepth 100000 in
theorem dX12_loneVariable_8 : decode cX12_loneVariable 8 = .ok (.getfield 82, 3) := by decide +kernel
set_option maxRecDepth 100000 in
theorem dX12_loneVariable_11 : decode cX12_loneVariable 11 = .ok (.iload_n 1, 1) := by decide +kernel
set_option maxRecDepth 100000 in
theorem dX12_loneVariable_12 : decode cX12_loneVariable 12 = .ok (.iaload, 1) := by decide +kernel
set_option maxRecDepth 100000 in
theorem dX12_loneVariable_13 : decode cX12_loneVariable 13 = .ok (.iconst (-1), 1) := by decide +kernel
set_option maxRecDepth 100000 in
theorem dX12_loneVariable_14 : decode cX12_loneVariable 14 = .ok (.if_icmp .ne 28, 3) := by decide +kernel
set_option maxRecDepth 100000 in
theorem dX12_loneVariable_17 : decode cX12_loneVariable 17 = .ok (.aload_n 0, 1) := by decide +kernel
set_option maxRecDepth 100000 in
theorem dX12_loneVariable_18 : decode cX12_loneVariable 18 = .ok (.getfield 82, 3) := by decide +kernel
set_option maxRecDepth 100000 in
theorem dX12_loneVariable_21 : decode cX12_loneVariable 21 = .ok (.iload_n 2, 1) := by decide +kernel
set_option maxRecDepth 100000 in
theorem dX12_loneVariable_22 : decode cX12_loneVariable 22 = .ok (.iaload, 1) := by decide +kernel
set_option maxRecDepth 100000 in
theorem dX12_loneVariable_23 : decode cX12_loneVariable 23 = .ok (.iconst (-1), 1) := by decide +kernel
set_option maxRecDepth 100000 in
theorem dX12_loneVariable_24 : decode cX12_loneVariable 24 = .ok (.if_icmp .ne 18, 3) := by decide +kernel
set_option maxRecDepth 100000 in
theorem dX12_loneVariable_27 : decode cX12_loneVariable 27 = .ok (.aload_n 0, 1) := by decide +kernel
set_option maxRecDepth 100000 in
theorem dX12_loneVariable_28 : decode cX12_loneVariable 28 = .ok (.getfield 79, 3) := by decide +kernel
set_option maxRecDepth 100000 in
theorem dX12_loneVariable_31 : decode cX12_loneVariable 31 = .ok (.aload_n 0, 1) := by decide +kernel
set_option maxRecDepth 100000 in
theorem dX12_loneVariable_32 : decode cX12_loneVariable 32 = .ok (.getfield 73, 3) := by decide +kernel
set_option maxRecDepth 100000 in
theorem dX12_loneVariable_35 : decode cX12_loneVariable 35 = .ok (.iload_n 2, 1) := by decide +kernel
set_option maxRecDepth 100000 in
theorem dX12_loneVariable_36 : decode cX12_loneVariable 36 = .ok (.iaload, 1) := by decide +kernel
set_option maxRecDepth 100000 in
theorem dX12_loneVariable_37 : decode cX12_loneVariable 37 = .ok (.iaload, 1) := by decide +kernel
set_option maxRecDepth 100000 in
theorem dX12_loneVariable_38 : decode cX12_loneVariable 38 = .ok (.iconst (-1), 1) := by decide +kernel
set_option maxRecDepth 100000 in
theorem dX12_loneVariable_39 : decode cX12_loneVariable 39 = .ok (.if_icmp .eq 5, 3) := by decide +kernel
set_option maxRecDepth 100000 in
theorem dX12_loneVariable_42 : decode cX12_loneVariable 42 = .ok (.iconst (-1), 1) := by decide +kernel
set_option maxRecDepth 100000 in
theorem dX12_loneVariable_43 : decode cX12_loneVariable 43 = .ok (.ireturn, 1) := by decide +kernel
set_option maxRecDepth 100000 in
theorem dX12_loneVariable_44 : decode cX12_loneVariable 44 = .ok (.aload_n 0, 1) := by decide +kernel
set_option maxRecDepth 100000 in
theorem dX12_loneVariable_45 : decode cX12_loneVariable 45 = .ok (.getfield 73, 3) := by decide +kernel
set_option maxRecDepth 100000 in
theorem dX12_loneVariable_48 : decode cX12_loneVariable 48 = .ok (.aload_n 0, 1) := by decide +kernel
set_option maxRecDepth 100000 in
theorem dX12_loneVariable_49 : decode cX12_loneVariable 49 = .ok (.getfield 73, 3) := by decide +kernel
set_option maxRecDepth 100000 in
theorem dX12_loneVariable_52 : decode cX12_loneVariable 52 = .ok (.iload_n 2, 1) := by decide +kernel
set_option maxRecDepth 100000 in
theorem dX12_loneVariable_53 : decode cX12_loneVariable 53 = .ok (.iaload, 1) := by decide +kernel
set_option maxRecDepth 100000 in
theorem dX12_loneVariable_54 : decode cX12_loneVariable 54 = .ok (.iaload, 1) := by decide +kernel
set_option maxRecDepth 100000 in
theorem dX12_loneVariable_55 : decode cX12_loneVariable 55 = .ok (.istore_n 3, 1) := by decide +kernel
set_option maxRecDepth 100000 in
theorem dX12_loneVariable_56 : decode cX12_loneVariable 56 = .ok (.aload_n 0, 1) := by decide +kernel
set_option maxRecDepth 100000 in
theorem dX12_loneVariable_57 : decode cX12_loneVariable 57 = .ok (.getfield 79, 3) := by decide +kernel
set_option maxRecDepth 100000 in
theorem dX12_loneVariable_60 : decode cX12_loneVariable 60 = .ok (.iload_n 3, 1) := by decide +kernel
set_option maxRecDepth 100000 in
theorem dX12_loneVariable_61 : decode cX12_loneVariable 61 = .ok (.iaload, 1) := by decide +kernel
set_option maxRecDepth 100000 in
theorem dX12_loneVariable_62 : decode cX12_loneVariable 62 = .ok (.iconst (-1), 1) := by decide +kernel
set_option maxRecDepth 100000 in
theorem dX12_loneVariable_63 : decode cX12_loneVariable 63 = .ok (.if_icmp .ne 18, 3) := by decide +kernel
set_option maxRecDepth 100000 in
theorem dX12_loneVariable_66 : decode cX12_loneVariable 66 = .ok (.aload_n 0, 1) := by decide +kernel
set_option maxRecDepth 100000 in
theorem dX12_loneVariable_67 : decode cX12_loneVariable 67 = .ok (.getfield 67, 3) := by decide +kernel
set_option maxRecDepth 100000 in
theorem dX12_loneVariable_70 : decode cX12_loneVariable 70 = .ok (.iload_n 3, 1) := by decide +kernel
set_option maxRecDepth 100000 in
theorem dX12_loneVariable_71 : decode cX12_loneVariable 71 = .ok (.iaload, 1) := by decide +kernel
set_option maxRecDepth 100000 in
theorem dX12_loneVariable_72 : decode cX12_loneVariable 72 = .ok (.bipush 61, 2) := by decide +kernel
set_option maxRecDepth 100000 in
theorem dX12_loneVariable_74 : decode cX12_loneVariable 74 = .ok (.if_icmp .ne 7, 3) := by decide +kernel
set_option maxRecDepth 100000 in
theorem dX12_loneVariable_77 : decode cX12_loneVariable 77 = .ok (.iload_n 3, 1) := by decide +kernel
set_option maxRecDepth 100000 in
theorem dX12_loneVariable_78 : decode cX12_loneVariable 78 = .ok (.goto 4, 3) := by decide +kernel
set_option maxRecDepth 100000 in
theorem dX12_loneVariable_81 : decode cX12_loneVariable 81 = .ok (.iconst (-1), 1) := by decide +kernel
set_option maxRecDepth 100000 in
theorem dX12_loneVariable_82 : decode cX12_loneVariable 82 = .ok (.ireturn, 1) := by decide +kernel
set_option maxRecDepth 100000 in
def bX12_loneVariable_82 (G : xG) (fr lo : Nat) (s0 : Int32) (h : xH) (Q : Outcome → xH → Prop) : Prop := Q (.returned (some (.int s0))) h
set_option maxRecDepth 100000 in
theorem uX12_loneVariable_82 {G : xG} {fr lo : Nat} {s0 : Int32} {h : xH} {Q : Outcome → xH → Prop} (hq : bX12_loneVariable_82 G fr lo s0 h Q) : xP G YX12_loneVariable fr lo 82 [] [.int s0] h Q := by
  unfold bX12_loneVariable_82 at hq
  exact x_iret rfl rfl dX12_loneVariable_82 hq
set_option maxRecDepth 100000 in
def bX12_loneVariable_81 (G : xG) (fr lo : Nat) (h : xH) (Q : Outcome → xH → Prop) : Prop := bX12_loneVariable_82 G fr lo (-1) h Q
set_option maxRecDepth 100000 in
theorem uX12_loneVariable_81 {G : xG} {fr lo : Nat} {h : xH} {Q : Outcome → xH → Prop} (hq : bX12_loneVariable_81 G fr lo h Q) : xP G YX12_loneVariable fr lo 81 [] [] h Q := by
  unfold bX12_loneVariable_81 at hq
  refine x_iconst (v := (-1)) dX12_loneVariable_81 (by decide) ?_
  exact uX12_loneVariable_82 hq
set_option maxRecDepth 100000 in
def bX12_loneVariable_42 (G : xG) (fr lo : Nat) (h : xH) (Q : Outcome → xH → Prop) : Prop := Q (.returned (some (.int (-1)))) h
set_option maxRecDepth 100000 in
theorem uX12_loneVariable_42 {G : xG} {fr lo : Nat} {h : xH} {Q : Outcome → xH → Prop} (hq : bX12_loneVariable_42 G fr lo h Q) : xP G YX12_loneVariable fr lo 42 [] [] h Q := by
  unfold bX12_loneVariable_42 at hq
  refine x_iconst (v := (-1)) dX12_loneVariable_42 (by decide) ?_
  exact x_iret rfl rfl dX12_loneVariable_43 hq
set_option maxRecDepth 100000 in
def bX12_loneVariable (G : xG) (fr lo : Nat) (x0 : Nat) (x1 : Int32) (h : xH) (Q : Outcome → xH → Prop) : Prop := tg h x0 = 13 ∧ tg h (fR h x0 3103) = 100 ∧ vp_in x1 (ln h (fR h x0 3103)) ∧ tg h (fR h x0 3106) = 100 ∧ vp_in x1 (ln h (fR h x0 3106)) ∧ ((¬ (aI h (fR h x0 3106) (Int32.toNatClampNeg x1)) = (-1) → bX12_loneVariable_42 G fr lo h Q) ∧ ((aI h (fR h x0 3106) (Int32.toNatClampNeg x1)) = (-1) → vp_in (aI h (fR h x0 3103) (Int32.toNatClampNeg x1)) (ln h (fR h x0 3106)) ∧ ((¬ (aI h (fR h x0 3106) (Int32.toNatClampNeg (aI h (fR h x0 3103) (Int32.toNatClampNeg x1)))) = (-1) → bX12_loneVariable_42 G fr lo h Q) ∧ ((aI h (fR h x0 3106) (Int32.toNatClampNeg (aI h (fR h x0 3103) (Int32.toNatClampNeg x1)))) = (-1) → vp_in (aI h (fR h x0 3103) (Int32.toNatClampNeg x1)) (ln h (fR h x0 3103)) ∧ tg h (fR h x0 3105) = 100 ∧ vp_in (aI h (fR h x0 3103) (Int32.toNatClampNeg (aI h (fR h x0 3103) (Int32.toNatClampNeg x1)))) (ln h (fR h x0 3105)) ∧ (((aI h (fR h x0 3105) (Int32.toNatClampNeg (aI h (fR h x0 3103) (Int32.toNatClampNeg (aI h (fR h x0 3103) (Int32.toNatClampNeg x1)))))) = (-1) → vp_in (aI h (fR h x0 3103) (Int32.toNatClampNeg x1)) (ln h (fR h x0 3103)) ∧ vp_in (aI h (fR h x0 3103) (Int32.toNatClampNeg (aI h (fR h x0 3103) (Int32.toNatClampNeg x1)))) (ln h (fR h x0 3103)) ∧ vp_in (aI h (fR h x0 3103) (Int32.toNatClampNeg (aI h (fR h x0 3103) (Int32.toNatClampNeg (aI h (fR h x0 3103) (Int32.toNatClampNeg x1)))))) (ln h (fR h x0 3105)) ∧ ((¬ (aI h (fR h x0 3105) (Int32.toNatClampNeg (aI h (fR h x0 3103) (Int32.toNatClampNeg (aI h (fR h x0 3103) (Int32.toNatClampNeg (aI h (fR h x0 3103) (Int32.toNatClampNeg x1)))))))) = (-1) → bX12_loneVariable_81 G fr lo h Q) ∧ ((aI h (fR h x0 3105) (Int32.toNatClampNeg (aI h (fR h x0 3103) (Int32.toNatClampNeg (aI h (fR h x0 3103) (Int32.toNatClampNeg (aI h (fR h x0 3103) (Int32.toNatClampNeg x1)))))))) = (-1) → tg h (fR h x0 3101) = 100 ∧ vp_in (aI h (fR h x0 3103) (Int32.toNatClampNeg (aI h (fR h x0 3103) (Int32.toNatClampNeg (aI h (fR h x0 3103) (Int32.toNatClampNeg x1)))))) (ln h (fR h x0 3101)) ∧ ((¬ (aI h (fR h x0 3101) (Int32.toNatClampNeg (aI h (fR h x0 3103) (Int32.toNatClampNeg (aI h (fR h x0 3103) (Int32.toNatClampNeg (aI h (fR h x0 3103) (Int32.toNatClampNeg x1)))))))) = 61 → bX12_loneVariable_81 G fr lo h Q) ∧ ((aI h (fR h x0 3101) (Int32.toNatClampNeg (aI h (fR h x0 3103) (Int32.toNatClampNeg (aI h (fR h x0 3103) (Int32.toNatClampNeg (aI h (fR h x0 3103) (Int32.toNatClampNeg x1)))))))) = 61 → bX12_loneVariable_82 G fr lo (aI h (fR h x0 3103) (Int32.toNatClampNeg (aI h (fR h x0 3103) (Int32.toNatClampNeg (aI h (fR h x0 3103) (Int32.toNatClampNeg x1)))))) h Q))))) ∧ (¬ (aI h (fR h x0 3105) (Int32.toNatClampNeg (aI h (fR h x0 3103) (Int32.toNatClampNeg (aI h (fR h x0 3103) (Int32.toNatClampNeg x1)))))) = (-1) → bX12_loneVariable_42 G fr lo h Q))))))
set_option maxRecDepth 100000 in
theorem uX12_loneVariable {G : xG} {fr lo : Nat} {x0 : Nat} {x1 : Int32} {h : xH} {Q : Outcome → xH → Prop} (hq : bX12_loneVariable G fr lo x0 x1 h Q) : xP G YX12_loneVariable fr lo 0 [(0, rv x0), (1, .int x1)] [] h Q := by
  unfold bX12_loneVariable at hq
  refine x_aload_n 0 dX12_loneVariable_0 rfl ?_
  obtain ⟨g1, hq⟩ := hq
  refine x_get (v := rv (fR h x0 3103)) fdX12_73 dX12_loneVariable_1 g1 rfl ?_
  refine x_iload_n 1 dX12_loneVariable_4 rfl ?_
  obtain ⟨g2, hq⟩ := hq
  obtain ⟨i3, hq⟩ := hq
  refine x_iald 0 (Or.inl rfl) g2 i3 dX12_loneVariable_5 ?_
  refine x_istore_n (lv' := [(2, .int (aI h (fR h x0 3103) (Int32.toNatClampNeg x1))), (0, rv x0), (1, .int x1)]) dX12_loneVariable_6 (by decide) rfl ?_
  refine x_aload_n 1 dX12_loneVariable_7 rfl ?_
  refine x_get (v := rv (fR h x0 3106)) fdX12_82 dX12_loneVariable_8 g1 rfl ?_
  refine x_iload_n 2 dX12_loneVariable_11 rfl ?_
  obtain ⟨g4, hq⟩ := hq
  obtain ⟨i5, hq⟩ := hq
  refine x_iald 0 (Or.inl rfl) g4 i5 dX12_loneVariable_12 ?_
  refine x_iconst (v := (-1)) dX12_loneVariable_13 (by decide) ?_
  refine x_icmp_ne (tgt := 42) dX12_loneVariable_14 (by decide) (fun c6 => ?_) (fun c6 => ?_)
  · replace hq := hq.1 c6
    refine xP.pick (lv' := []) [] rfl ?_
    exact uX12_loneVariable_42 hq
  · replace hq := hq.2 c6
    refine x_aload_n 1 dX12_loneVariable_17 rfl ?_
    refine x_get (v := rv (fR h x0 3106)) fdX12_82 dX12_loneVariable_18 g1 rfl ?_
    refine x_iload_n 0 dX12_loneVariable_21 rfl ?_
    obtain ⟨i7, hq⟩ := hq
    refine x_iald 0 (Or.inl rfl) g4 i7 dX12_loneVariable_22 ?_
    refine x_iconst (v := (-1)) dX12_loneVariable_23 (by decide) ?_
    refine x_icmp_ne (tgt := 42) dX12_loneVariable_24 (by decide) (fun c8 => ?_) (fun c8 => ?_)
    · replace hq := hq.1 c8
      refine xP.pick (lv' := []) [] rfl ?_
      exact uX12_loneVariable_42 hq
    · replace hq := hq.2 c8
      refine x_aload_n 1 dX12_loneVariable_27 rfl ?_
      refine x_get (v := rv (fR h x0 3105)) fdX12_79 dX12_loneVariable_28 g1 rfl ?_
      refine x_aload_n 1 dX12_loneVariable_31 rfl ?_
      refine x_get (v := rv (fR h x0 3103)) fdX12_73 dX12_loneVariable_32 g1 rfl ?_
      refine x_iload_n 0 dX12_loneVariable_35 rfl ?_
      obtain ⟨i9, hq⟩ := hq
      refine x_iald 0 (Or.inl rfl) g2 i9 dX12_loneVariable_36 ?_
      obtain ⟨g10, hq⟩ := hq
      obtain ⟨i11, hq⟩ := hq
      refine x_iald 0 (Or.inl rfl) g10 i11 dX12_loneVariable_37 ?_
      refine x_iconst (v := (-1)) dX12_loneVariable_38 (by decide) ?_
      refine x_icmp_eq (tgt := 44) dX12_loneVariable_39 (by decide) (fun c12 => ?_) (fun c12 => ?_)
      · replace hq := hq.1 c12
        refine x_aload_n 1 dX12_loneVariable_44 rfl ?_
        refine x_get (v := rv (fR h x0 3103)) fdX12_73 dX12_loneVariable_45 g1 rfl ?_
        refine x_aload_n 1 dX12_loneVariable_48 rfl ?_
        refine x_get (v := rv (fR h x0 3103)) fdX12_73 dX12_loneVariable_49 g1 rfl ?_
        refine x_iload_n 0 dX12_loneVariable_52 rfl ?_
        obtain ⟨i13, hq⟩ := hq
        refine x_iald 0 (Or.inl rfl) g2 i13 dX12_loneVariable_53 ?_
        obtain ⟨i14, hq⟩ := hq
        refine x_iald 0 (Or.inl rfl) g2 i14 dX12_loneVariable_54 ?_
        refine x_istore_n (lv' := [(3, .int (aI h (fR h x0 3103) (Int32.toNatClampNeg (aI h (fR h x0 3103) (Int32.toNatClampNeg (aI h (fR h x0 3103) (Int32.toNatClampNeg x1))))))), (2, .int (aI h (fR h x0 3103) (Int32.toNatClampNeg x1))), (0, rv x0), (1, .int x1)]) dX12_loneVariable_55 (by decide) rfl ?_
        refine x_aload_n 2 dX12_loneVariable_56 rfl ?_
        refine x_get (v := rv (fR h x0 3105)) fdX12_79 dX12_loneVariable_57 g1 rfl ?_
        refine x_iload_n 0 dX12_loneVariable_60 rfl ?_
        obtain ⟨i15, hq⟩ := hq
        refine x_iald 0 (Or.inl rfl) g10 i15 dX12_loneVariable_61 ?_
        refine x_iconst (v := (-1)) dX12_loneVariable_62 (by decide) ?_
        refine x_icmp_ne (tgt := 81) dX12_loneVariable_63 (by decide) (fun c16 => ?_) (fun c16 => ?_)
        · replace hq := hq.1 c16
          refine xP.pick (lv' := []) [] rfl ?_
          exact uX12_loneVariable_81 hq
        · replace hq := hq.2 c16
          refine x_aload_n 2 dX12_loneVariable_66 rfl ?_
          refine x_get (v := rv (fR h x0 3101)) fdX12_67 dX12_loneVariable_67 g1 rfl ?_
          refine x_iload_n 0 dX12_loneVariable_70 rfl ?_
          obtain ⟨g17, hq⟩ := hq
          obtain ⟨i18, hq⟩ := hq
          refine x_iald 0 (Or.inl rfl) g17 i18 dX12_loneVariable_71 ?_
          refine x_bipush (v := 61) dX12_loneVariable_72 (by decide) ?_
          refine x_icmp_ne (tgt := 81) dX12_loneVariable_74 (by decide) (fun c19 => ?_) (fun c19 => ?_)
          · replace hq := hq.1 c19
            refine xP.pick (lv' := []) [] rfl ?_
            exact uX12_loneVariable_81 hq
          · replace hq := hq.2 c19
            refine x_iload_n 0 dX12_loneVariable_77 rfl ?_
            refine x_goto (tgt := 82) dX12_loneVariable_78 (by decide) ?_
            refine xP.pick (lv' := []) [] rfl ?_
            exact uX12_loneVariable_82 hq
      · replace hq := hq.2 c12
        refine xP.pick (lv' := []) [] rfl ?_
        exact uX12_loneVariable_42 hq
theorem rX12_loneVariable {G : xG} {fr lo : Nat} {x0 : Nat} {x1 : Int32} {h : xH} {Q : Outcome → xH → Prop} (hq : bX12_loneVariable G fr lo x0 x1 h Q) : xR G YX12_loneVariable fr lo [rv x0, .int x1] h Q := by
  show xP _ _ _ _ _ (lv_args 0 _) _ _ _
  rw [show lv_args 0 [rv x0, .int x1] = [(0, rv x0), (1, .int x1)] from (xla1 (rv_cat _) (xla1 rfl xla0))]
  exact uX12_loneVariable hq
set_option maxRecDepth 100000 in
theorem dX12_argument_0 : decode cX12_argument 0 = .ok (.aload_n 2, 1) := by decide +kernel
set_option maxRecDepth 100000 in
theorem dX12_argument_1 : decode cX12_argument 1 = .ok (.getfield 577, 3) := by decide +kernel
set_option maxRecDepth 100000 in
theorem dX12_argument_4 : decode cX12_argument 4 = .ok (.iconst 5, 1) := by decide +kernel
set_option maxRecDepth 100000 in
theorem dX12_argument_5 : decode cX12_argument 5 = .ok (.if_icmp .ne 101, 3) := by decide +kernel
set_option maxRecDepth 100000 in
theorem dX12_argument_8 : decode cX12_argument 8 = .ok (.aload_n 0, 1) := by decide +kernel
set_option maxRecDepth 100000 in
theorem dX12_argument_9 : decode cX12_argument 9 = .ok (.iload_n 1, 1) := by decide +kernel
set_option maxRecDepth 100000 in
theorem dX12_argument_10 : decode cX12_argument 10 = .ok (.invokevirtual 1022, 3) := by decide +kernel
set_option maxRecDepth 100000 in
theorem dX12_argument_13 : decode cX12_argument 13 = .ok (.istore_n 3, 1) := by decide +kernel
set_option maxRecDepth 100000 in
theorem dX12_argument_14 : decode cX12_argument 14 = .ok (.iload_n 3, 1) := by decide +kernel
set_option maxRecDepth 100000 in
theorem dX12_argument_15 : decode cX12_argument 15 = .ok (.iconst (-1), 1) := by decide +kernel
set_option maxRecDepth 100000 in
theorem dX12_argument_16 : decode cX12_argument 16 = .ok (.if_icmp .eq 13, 3) := by decide +kernel
set_option maxRecDepth 100000 in
theorem dX12_argument_19 : decode cX12_argument 19 = .ok (.aload_n 0, 1) := by decide +kernel
set_option maxRecDepth 100000 in
theorem dX12_argument_20 : decode cX12_argument 20 = .ok (.getfield 73, 3) := by decide +kernel
set_option maxRecDepth 100000 in
theorem dX12_argument_23 : decode cX12_argument 23 = .ok (.iload_n 3, 1) := by decide +kernel
set_option maxRecDepth 100000 in
theorem dX12_argument_24 : decode cX12_argument 24 = .ok (.iaload, 1) := by decide +kernel
set_option maxRecDepth 100000 in
theorem dX12_argument_25 : decode cX12_argument 25 = .ok (.iconst (-1), 1) := by decide +kernel
set_option maxRecDepth 100000 in
theorem dX12_argument_26 : decode cX12_argument 26 = .ok (.if_icmp .eq 15, 3) := by decide +kernel
set_option maxRecDepth 100000 in
theorem dX12_argument_29 : decode cX12_argument 29 = .ok (.aload_n 0, 1) := by decide +kernel
set_option maxRecDepth 100000 in
theorem dX12_argument_30 : decode cX12_argument 30 = .ok (.bipush 6, 2) := by decide +kernel
set_option maxRecDepth 100000 in
theorem dX12_argument_32 : decode cX12_argument 32 = .ok (.aload_n 0, 1) := by decide +kernel
set_option maxRecDepth 100000 in
theorem dX12_argument_33 : decode cX12_argument 33 = .ok (.getfield 70, 3) := by decide +kernel
set_option maxRecDepth 100000 in
theorem dX12_argument_36 : decode cX12_argument 36 = .ok (.iload_n 1, 1) := by decide +kernel
set_option maxRecDepth 100000 in
theorem dX12_argument_37 : decode cX12_argument 37 = .ok (.iaload, 1) := by decide +kernel
set_option maxRecDepth 100000 in
theorem dX12_argument_38 : decode cX12_argument 38 = .ok (.invokevirtual 570, 3) := by decide +kernel
set_option maxRecDepth 100000 in
theorem dX12_argument_41 : decode cX12_argument 41 = .ok (.aload_n 0, 1) := by decide +kernel
set_option maxRecDepth 100000 in
theorem dX12_argument_42 : decode cX12_argument 42 = .ok (.aload_n 0, 1) := by decide +kernel
set_option maxRecDepth 100000 in
theorem dX12_argument_43 : decode cX12_argument 43 = .ok (.getfield 70, 3) := by decide +kernel
set_option maxRecDepth 100000 in
theorem dX12_argument_46 : decode cX12_argument 46 = .ok (.iload_n 3, 1) := by decide +kernel
set_option maxRecDepth 100000 in
theorem dX12_argument_47 : decode cX12_argument 47 = .ok (.iaload, 1) := by decide +kernel
set_option maxRecDepth 100000 in
theorem dX12_argument_48 : decode cX12_argument 48 = .ok (.iconst 5, 1) := by decide +kernel
set_option maxRecDepth 100000 in
theorem dX12_argument_49 : decode cX12_argument 49 = .ok (.invokevirtual 838, 3) := by decide +kernel
set_option maxRecDepth 100000 in
theorem dX12_argument_52 : decode cX12_argument 52 = .ok (.astore 4, 2) := by decide +kernel
set_option maxRecDepth 100000 in
theorem dX12_argument_54 : decode cX12_argument 54 = .ok (.aload 4, 2) := by decide +kernel
set_option maxRecDepth 100000 in
theorem dX12_argument_56 : decode cX12_argument 56 = .ok (.getfield 632, 3) := by decide +kernel
set_option maxRecDepth 100000 in
theorem dX12_argument_59 : decode cX12_argument 59 = .ok (.ifCond .le 15, 3) := by decide +kernel
set_option maxRecDepth 100000 in
theorem dX12_argument_62 : decode cX12_argument 62 = .ok (.aload_n 0, 1) := by decide +kernel
set_option maxRecDepth 100000 in
theorem dX12_argument_63 : decode cX12_argument 63 = .ok (.bipush 6, 2) := by decide +kernel
set_option maxRecDepth 100000 in
theorem dX12_argument_65 : decode cX12_argument 65 = .ok (.aload_n 0, 1) := by decide +kernel
set_option maxRecDepth 100000 in
theorem dX12_argument_66 : decode cX12_argument 66 = .ok (.getfield 70, 3) := by decide +kernel
set_option maxRecDepth 100000 in
theorem dX12_argument_69 : decode cX12_argument 69 = .ok (.iload_n 3, 1) := by decide +kernel
set_option maxRecDepth 100000 in
theorem dX12_argument_70 : decode cX12_argument 70 = .ok (.iaload, 1) := by decide +kernel
set_option maxRecDepth 100000 in
theorem dX12_argument_71 : decode cX12_argument 71 = .ok (.invokevirtual 570, 3) := by decide +kernel
set_option maxRecDepth 100000 in
theorem dX12_argument_74 : decode cX12_argument 74 = .ok (.aload 4, 2) := by decide +kernel
set_option maxRecDepth 100000 in
theorem dX12_argument_76 : decode cX12_argument 76 = .ok (.aload_n 2, 1) := by decide +kernel
set_option maxRecDepth 100000 in
theorem dX12_argument_77 : decode cX12_argument 77 = .ok (.invokestatic 964, 3) := by decide +kernel
set_option maxRecDepth 100000 in
theorem dX12_argument_80 : decode cX12_argument 80 = .ok (.ifCond .ne 15, 3) := by decide +kernel
set_option maxRecDepth 100000 in
theorem dX12_argument_83 : decode cX12_argument 83 = .ok (.aload_n 0, 1) := by decide +kernel
set_option maxRecDepth 100000 in
theorem dX12_argument_84 : decode cX12_argument 84 = .ok (.bipush 7, 2) := by decide +kernel
set_option maxRecDepth 100000 in
theorem dX12_argument_86 : decode cX12_argument 86 = .ok (.aload_n 0, 1) := by decide +kernel
set_option maxRecDepth 100000 in
theorem dX12_argument_87 : decode cX12_argument 87 = .ok (.getfield 70, 3) := by decide +kernel
set_option maxRecDepth 100000 in
theorem dX12_argument_90 : decode cX12_argument 90 = .ok (.iload_n 1, 1) := by decide +kernel
set_option maxRecDepth 100000 in
theorem dX12_argument_91 : decode cX12_argument 91 = .ok (.iaload, 1) := by decide +kernel
set_option maxRecDepth 100000 in
theorem dX12_argument_92 : decode cX12_argument 92 = .ok (.invokevirtual 570, 3) := by decide +kernel
set_option maxRecDepth 100000 in
theorem dX12_argument_95 : decode cX12_argument 95 = .ok (.aload_n 0, 1) := by decide +kernel
set_option maxRecDepth 100000 in
theorem dX12_argument_96 : decode cX12_argument 96 = .ok (.getfield 102, 3) := by decide +kernel
set_option maxRecDepth 100000 in
theorem dX12_argument_99 : decode cX12_argument 99 = .ok (.iload_n 3, 1) := by decide +kernel
set_option maxRecDepth 100000 in
theorem dX12_argument_100 : decode cX12_argument 100 = .ok (.aload 4, 2) := by decide +kernel
set_option maxRecDepth 100000 in
theorem dX12_argument_102 : decode cX12_argument 102 = .ok (.aastore, 1) := by decide +kernel
set_option maxRecDepth 100000 in
theorem dX12_argument_103 : decode cX12_argument 103 = .ok (.goto 97, 3) := by decide +kernel
set_option maxRecDepth 100000 in
theorem dX12_argument_106 : decode cX12_argument 106 = .ok (.aload_n 2, 1) := by decide +kernel
set_option maxRecDepth 100000 in
theorem dX12_argument_107 : decode cX12_argument 107 = .ok (.getfield 961, 3) := by decide +kernel
set_option maxRecDepth 100000 in
theorem dX12_argument_110 : decode cX12_argument 110 = .ok (.ifCond .eq 62, 3) := by decide +kernel
set_option maxRecDepth 100000 in
theorem dX12_argument_113 : decode cX12_argument 113 = .ok (.aload_n 0, 1) := by decide +kernel
set_option maxRecDepth 100000 in
theorem dX12_argument_114 : decode cX12_argument 114 = .ok (.iload_n 1, 1) := by decide +kernel
set_option maxRecDepth 100000 in
theorem dX12_argument_115 : decode cX12_argument 115 = .ok (.invokevirtual 1028, 3) := by decide +kernel
set_option maxRecDepth 100000 in
theorem dX12_argument_118 : decode cX12_argument 118 = .ok (.aload_n 2, 1) := by decide +kernel
set_option maxRecDepth 100000 in
theorem dX12_argument_119 : decode cX12_argument 119 = .ok (.getfield 612, 3) := by decide +kernel
set_option maxRecDepth 100000 in
theorem dX12_argument_122 : decode cX12_argument 122 = .ok (.if_acmp .eq 15, 3) := by decide +kernel
set_option maxRecDepth 100000 in
theorem dX12_argument_125 : decode cX12_argument 125 = .ok (.aload_n 0, 1) := by decide +kernel
set_option maxRecDepth 100000 in
theorem dX12_argument_126 : decode cX12_argument 126 = .ok (.bipush 7, 2) := by decide +kernel
set_option maxRecDepth 100000 in
theorem dX12_argument_128 : decode cX12_argument 128 = .ok (.aload_n 0, 1) := by decide +kernel
set_option maxRecDepth 100000 in
theorem dX12_argument_129 : decode cX12_argument 129 = .ok (.getfield 70, 3) := by decide +kernel
set_option maxRecDepth 100000 in
theorem dX12_argument_132 : decode cX12_argument 132 = .ok (.iload_n 1, 1) := by decide +kernel
set_option maxRecDepth 100000 in
theorem dX12_argument_133 : decode cX12_argument 133 = .ok (.iaload, 1) := by decide +kernel
set_option maxRecDepth 100000 in
theorem dX12_argument_134 : decode cX12_argument 134 = .ok (.invokevirtual 570, 3) := by decide +kernel
set_option maxRecDepth 100000 in
theorem dX12_argument_137 : decode cX12_argument 137 = .ok (.aload_n 0, 1) := by decide +kernel
set_option maxRecDepth 100000 in
theorem dX12_argument_138 : decode cX12_argument 138 = .ok (.iload_n 1, 1) := by decide +kernel
set_option maxRecDepth 100000 in
theorem dX12_argument_139 : decode cX12_argument 139 = .ok (.invokevirtual 1022, 3) := by decide +kernel
set_option maxRecDepth 100000 in
theorem dX12_argument_142 : decode cX12_argument 142 = .ok (.istore_n 3, 1) := by decide +kernel
set_option maxRecDepth 100000 in
theorem dX12_argument_143 : decode cX12_argument 143 = .ok (.aload_n 0, 1) := by decide +kernel
set_option maxRecDepth 100000 in
theorem dX12_argument_144 : decode cX12_argument 144 = .ok (.getfield 73, 3) := by decide +kernel
set_option maxRecDepth 100000 in
theorem dX12_argument_147 : decode cX12_argument 147 = .ok (.iload_n 3, 1) := by decide +kernel
set_option maxRecDepth 100000 in
theorem dX12_argument_148 : decode cX12_argument 148 = .ok (.iaload, 1) := by decide +kernel
set_option maxRecDepth 100000 in
theorem dX12_argument_149 : decode cX12_argument 149 = .ok (.iconst (-1), 1) := by decide +kernel
set_option maxRecDepth 100000 in
theorem dX12_argument_150 : decode cX12_argument 150 = .ok (.if_icmp .ne 19, 3) := by decide +kernel
set_option maxRecDepth 100000 in
theorem dX12_argument_153 : decode cX12_argument 153 = .ok (.aload_n 0, 1) := by decide +kernel
set_option maxRecDepth 100000 in
theorem dX12_argument_154 : decode cX12_argument 154 = .ok (.aload_n 0, 1) := by decide +kernel
set_option maxRecDepth 100000 in
theorem dX12_argument_155 : decode cX12_argument 155 = .ok (.getfield 102, 3) := by decide +kernel
set_option maxRecDepth 100000 in
theorem dX12_argument_158 : decode cX12_argument 158 = .ok (.iload_n 3, 1) := by decide +kernel
set_option maxRecDepth 100000 in
theorem dX12_argument_159 : decode cX12_argument 159 = .ok (.aaload, 1) := by decide +kernel
set_option maxRecDepth 100000 in
theorem dX12_argument_160 : decode cX12_argument 160 = .ok (.aload_n 0, 1) := by decide +kernel
set_option maxRecDepth 100000 in
theorem dX12_argument_161 : decode cX12_argument 161 = .ok (.getfield 70, 3) := by decide +kernel
set_option maxRecDepth 100000 in
theorem dX12_argument_164 : decode cX12_argument 164 = .ok (.iload_n 3, 1) := by decide +kernel
set_option maxRecDepth 100000 in
theorem dX12_argument_165 : decode cX12_argument 165 = .ok (.iaload, 1) := by decide +kernel
set_option maxRecDepth 100000 in
theorem dX12_argument_166 : decode cX12_argument 166 = .ok (.invokevirtual 1009, 3) := by decide +kernel
set_option maxRecDepth 100000 in
theorem dX12_argument_169 : decode cX12_argument 169 = .ok (.goto 31, 3) := by decide +kernel
set_option maxRecDepth 100000 in
theorem dX12_argument_172 : decode cX12_argument 172 = .ok (.aload_n 0, 1) := by decide +kernel
set_option maxRecDepth 100000 in
theorem dX12_argument_173 : decode cX12_argument 173 = .ok (.aload_n 0, 1) := by decide +kernel
set_option maxRecDepth 100000 in
theorem dX12_argument_174 : decode cX12_argument 174 = .ok (.iload_n 1, 1) := by decide +kernel
set_option maxRecDepth 100000 in
theorem dX12_argument_175 : decode cX12_argument 175 = .ok (.invokevirtual 989, 3) := by decide +kernel
set_option maxRecDepth 100000 in
theorem dX12_argument_178 : decode cX12_argument 178 = .ok (.aload_n 2, 1) := by decide +kernel
set_option maxRecDepth 100000 in
theorem dX12_argument_179 : decode cX12_argument 179 = .ok (.getfield 612, 3) := by decide +kernel
set_option maxRecDepth 100000 in
theorem dX12_argument_182 : decode cX12_argument 182 = .ok (.invokevirtual 999, 3) := by decide +kernel
set_option maxRecDepth 100000 in
theorem dX12_argument_185 : decode cX12_argument 185 = .ok (.ifCond .ne 15, 3) := by decide +kernel
set_option maxRecDepth 100000 in
theorem dX12_argument_188 : decode cX12_argument 188 = .ok (.aload_n 0, 1) := by decide +kernel
set_option maxRecDepth 100000 in
theorem dX12_argument_189 : decode cX12_argument 189 = .ok (.bipush 7, 2) := by decide +kernel
set_option maxRecDepth 100000 in
theorem dX12_argument_191 : decode cX12_argument 191 = .ok (.aload_n 0, 1) := by decide +kernel
set_option maxRecDepth 100000 in
theorem dX12_argument_192 : decode cX12_argument 192 = .ok (.getfield 70, 3) := by decide +kernel
set_option maxRecDepth 100000 in
theorem dX12_argument_195 : decode cX12_argument 195 = .ok (.iload_n 1, 1) := by decide +kernel
set_option maxRecDepth 100000 in
theorem dX12_argument_196 : decode cX12_argument 196 = .ok (.iaload, 1) := by decide +kernel
set_option maxRecDepth 100000 in
theorem dX12_argument_197 : decode cX12_argument 197 = .ok (.invokevirtual 570, 3) := by decide +kernel
set_option maxRecDepth 100000 in
theorem dX12_argument_200 : decode cX12_argument 200 = .ok (.return_, 1) := by decide +kernel
set_option maxRecDepth 100000 in
def bX12_argument_200 (G : xG) (fr lo : Nat) (h : xH) (Q : Outcome → xH → Prop) : Prop := Q (.returned none) h
set_option maxRecDepth 100000 in
theorem uX12_argument_200 {G : xG} {fr lo : Nat} {h : xH} {Q : Outcome → xH → Prop} (hq : bX12_argument_200 G fr lo h Q) : xP G YX12_argument fr lo 200 [] [] h Q := by
  unfold bX12_argument_200 at hq
  exact x_vret rfl dX12_argument_200 hq
set_option maxRecDepth 100000 in
def bX12_argument_169 (G : xG) (fr lo : Nat) (h : xH) (Q : Outcome → xH → Prop) : Prop := bX12_argument_200 G fr lo h Q
set_option maxRecDepth 100000 in
theorem uX12_argument_169 {G : xG} {fr lo : Nat} {h : xH} {Q : Outcome → xH → Prop} (hq : bX12_argument_169 G fr lo h Q) : xP G YX12_argument fr lo 169 [] [] h Q := by
  unfold bX12_argument_169 at hq
  refine x_goto (tgt := 200) dX12_argument_169 (by decide) ?_
  exact uX12_argument_200 hq
set_option maxRecDepth 100000 in
def bX12_argument_137 (G : xG) (fr lo : Nat) (x0 : Nat) (x1 : Int32) (h : xH) (Q : Outcome → xH → Prop) : Prop := tg h x0 = 13 ∧ 1 ≤ fr ∧ 15 ≤ lo ∧ xRi G YX12_loneVariable (fr - 1) (lo - 15) [rv x0, .int x1] h (fun x5 h4 => xext h h4 → tg h4 (fR h4 x0 3103) = 100 ∧ vp_in x5 (ln h4 (fR h4 x0 3103)) ∧ ((¬ (aI h4 (fR h4 x0 3103) (Int32.toNatClampNeg x5)) = (-1) → bX12_argument_169 G fr lo h4 Q) ∧ ((aI h4 (fR h4 x0 3103) (Int32.toNatClampNeg x5)) = (-1) → tg h4 (fR h4 x0 3114) = 109 ∧ vp_in x5 (ln h4 (fR h4 x0 3114)) ∧ tg h4 (fR h4 x0 3102) = 100 ∧ vp_in x5 (ln h4 (fR h4 x0 3102)) ∧ 1 ≤ fr ∧ 14 ≤ lo ∧ xRv G YX12_threaten (fr - 1) (lo - 14) [rv x0, rv (aR h4 (fR h4 x0 3114) (Int32.toNatClampNeg x5)), .int (aI h4 (fR h4 x0 3102) (Int32.toNatClampNeg x5))] h4 (fun h17 => xext h4 h17 → bX12_argument_169 G fr lo h17 Q) (fun r h2 => Q (.threw r) h2)))) (fun r h2 => Q (.threw r) h2)
set_option maxRecDepth 100000 in
theorem uX12_argument_137 {G : xG} {fr lo : Nat} {x0 : Nat} {x1 : Int32} {h : xH} {Q : Outcome → xH → Prop} (hq : bX12_argument_137 G fr lo x0 x1 h Q) : xP G YX12_argument fr lo 137 [(0, rv x0), (1, .int x1)] [] h Q := by
  unfold bX12_argument_137 at hq
  refine x_aload_n 0 dX12_argument_137 rfl ?_
  refine x_iload_n 1 dX12_argument_138 rfl ?_
  obtain ⟨g1, hq⟩ := hq
  obtain ⟨g2, g3, hq⟩ := hq
  refine x_callV (Yc := YX12_loneVariable) (as := [.int x1]) (st := []) q4348 mvX12_loneVariable g1 rfl dX12_argument_139 (xle (xal1 (rv_cat _) (xal1 rfl xal0)) (by decide)) (xfr g2) (xlo xsw0 (by decide) g3) (xKi hq (fun x5 h4 hq e6 => ?_) (fun _ _ q _ => q))
  replace hq := hq e6
  refine x_istore_n (lv' := [(3, .int x5), (0, rv x0), (1, .int x1)]) dX12_argument_142 (by decide) rfl ?_
  refine x_aload_n 1 dX12_argument_143 rfl ?_
  have t7 : tg h4 x0 = 13 := e6.tg g1 (by decide)
  refine x_get (v := rv (fR h4 x0 3103)) fdX12_73 dX12_argument_144 t7 rfl ?_
  refine x_iload_n 0 dX12_argument_147 rfl ?_
  obtain ⟨g8, hq⟩ := hq
  obtain ⟨i9, hq⟩ := hq
  refine x_iald 0 (Or.inl rfl) g8 i9 dX12_argument_148 ?_
  refine x_iconst (v := (-1)) dX12_argument_149 (by decide) ?_
  refine x_icmp_ne (tgt := 169) dX12_argument_150 (by decide) (fun c10 => ?_) (fun c10 => ?_)
  · replace hq := hq.1 c10
    refine xP.pick (lv' := []) [] rfl ?_
    exact uX12_argument_169 hq
  · replace hq := hq.2 c10
    refine x_aload_n 1 dX12_argument_153 rfl ?_
    refine x_aload_n 1 dX12_argument_154 rfl ?_
    refine x_get (v := rv (fR h4 x0 3114)) fdX12_102 dX12_argument_155 t7 rfl ?_
    refine x_iload_n 0 dX12_argument_158 rfl ?_
    obtain ⟨g11, hq⟩ := hq
    obtain ⟨i12, hq⟩ := hq
    refine x_aald 9 rfl g11 (by decide) i12 dX12_argument_159 ?_
    refine x_aload_n 1 dX12_argument_160 rfl ?_
    refine x_get (v := rv (fR h4 x0 3102)) fdX12_70 dX12_argument_161 t7 rfl ?_
    refine x_iload_n 0 dX12_argument_164 rfl ?_
    obtain ⟨g13, hq⟩ := hq
    obtain ⟨i14, hq⟩ := hq
    refine x_iald 0 (Or.inl rfl) g13 i14 dX12_argument_165 ?_
    obtain ⟨g15, g16, hq⟩ := hq
    refine x_callV (Yc := YX12_threaten) (as := [rv (aR h4 (fR h4 x0 3114) (Int32.toNatClampNeg x5)), .int (aI h4 (fR h4 x0 3102) (Int32.toNatClampNeg x5))]) (st := []) q4389 mvX12_threaten t7 rfl dX12_argument_166 (xle (xal1 (rv_cat _) (xal1 (rv_cat _) (xal1 rfl xal0))) (by decide)) (xfr g15) (xlo xsw0 (by decide) g16) (xKv hq (fun h17 hq e19 => ?_) (fun _ _ q _ => q))
    replace hq := hq e19
    refine xP.pick (lv' := []) [] rfl ?_
    exact uX12_argument_169 hq
set_option maxRecDepth 100000 in
def bX12_argument_95 (G : xG) (fr lo : Nat) (x0 : Nat) (x3 : Int32) (x4 : Nat) (h : xH) (Q : Outcome → xH → Prop) : Prop := tg h x0 = 13 ∧ tg h (fR h x0 3114) = 109 ∧ tg h x4 = 24 ∧ vp_in x3 (ln h (fR h x0 3114)) ∧ (∀ h5 : xH, h5 = tR h (fR h x0 3114) (Int32.toNatClampNeg x3) x4 → bX12_argument_200 G fr lo h5 Q)
set_option maxRecDepth 100000 in
theorem uX12_argument_95 {G : xG} {fr lo : Nat} {x0 : Nat} {x3 : Int32} {x4 : Nat} {h : xH} {Q : Outcome → xH → Prop} (hq : bX12_argument_95 G fr lo x0 x3 x4 h Q) : xP G YX12_argument fr lo 95 [(0, rv x0), (3, .int x3), (4, rv x4)] [] h Q := by
  unfold bX12_argument_95 at hq
  refine x_aload_n 0 dX12_argument_95 rfl ?_
  obtain ⟨g1, hq⟩ := hq
  refine x_get (v := rv (fR h x0 3114)) fdX12_102 dX12_argument_96 g1 rfl ?_
  refine x_iload_n 1 dX12_argument_99 rfl ?_
  refine x_aload 2 dX12_argument_100 rfl ?_
  obtain ⟨g2, hq⟩ := hq
  obtain ⟨g3, hq⟩ := hq
  obtain ⟨i4, hq⟩ := hq
  obtain ⟨h5, e6⟩ : ∃ y, y = tR h (fR h x0 3114) (Int32.toNatClampNeg x3) x4 := ⟨_, rfl⟩
  replace hq := hq h5 e6
  refine x_aast 9 23 as_9_23 g2 (Or.inl (by rw [g2]; rfl)) g3 i4 dX12_argument_102 e6 ?_
  refine x_goto (tgt := 200) dX12_argument_103 (by decide) ?_
  refine xP.pick (lv' := []) [] rfl ?_
  exact uX12_argument_200 hq
set_option maxRecDepth 100000 in
def bX12_argument_74 (G : xG) (fr lo : Nat) (x0 : Nat) (x1 : Int32) (x2 : Nat) (x3 : Int32) (x4 : Nat) (h : xH) (Q : Outcome → xH → Prop) : Prop := 1 ≤ fr ∧ 16 ≤ lo ∧ xRi G YX12_areCongruous (fr - 1) (lo - 16) [rv x4, rv x2] h (fun x4 h3 => xext h h3 → ((¬ x4 = 0 → bX12_argument_95 G fr lo x0 x3 x4 h3 Q) ∧ (x4 = 0 → tg h3 x0 = 13 ∧ tg h3 (fR h3 x0 3102) = 100 ∧ vp_in x1 (ln h3 (fR h3 x0 3102)) ∧ 1 ≤ fr ∧ 14 ≤ lo ∧ xRv G YX12_refuse (fr - 1) (lo - 14) [rv x0, .int 7, .int (aI h3 (fR h3 x0 3102) (Int32.toNatClampNeg x1))] h3 (fun h12 => xext h3 h12 → bX12_argument_95 G fr lo x0 x3 x4 h12 Q) (fun r h2 => Q (.threw r) h2)))) (fun r h2 => Q (.threw r) h2)
set_option maxRecDepth 100000 in
theorem uX12_argument_74 {G : xG} {fr lo : Nat} {x0 : Nat} {x1 : Int32} {x2 : Nat} {x3 : Int32} {x4 : Nat} {h : xH} {Q : Outcome → xH → Prop} (hq : bX12_argument_74 G fr lo x0 x1 x2 x3 x4 h Q) : xP G YX12_argument fr lo 74 [(0, rv x0), (1, .int x1), (2, rv x2), (3, .int x3), (4, rv x4)] [] h Q := by
  unfold bX12_argument_74 at hq
  refine x_aload 4 dX12_argument_74 rfl ?_
  refine x_aload_n 2 dX12_argument_76 rfl ?_
  obtain ⟨g1, g2, hq⟩ := hq
  refine x_callS (Yc := YX12_areCongruous) (as := [rv x4, rv x2]) (st := []) q4360 msX12_areCongruous rfl dX12_argument_77 (xle (xal1 (rv_cat _) (xal1 (rv_cat _) xal0)) (by decide)) (xfr g1) (xlo xsw0 (by decide) g2) (xKi hq (fun x4 h3 hq e5 => ?_) (fun _ _ q _ => q))
  replace hq := hq e5
  refine x_if_ne (tgt := 95) dX12_argument_80 (by decide) (fun c6 => ?_) (fun c6 => ?_)
  · replace hq := hq.1 c6
    refine xP.pick (lv' := [(0, rv x0), (3, .int x3), (4, rv x4)]) [0, 3, 4] rfl ?_
    exact uX12_argument_95 hq
  · replace hq := hq.2 c6
    refine x_aload_n 0 dX12_argument_83 rfl ?_
    refine x_bipush (v := 7) dX12_argument_84 (by decide) ?_
    refine x_aload_n 0 dX12_argument_86 rfl ?_
    obtain ⟨g7, hq⟩ := hq
    refine x_get (v := rv (fR h3 x0 3102)) fdX12_70 dX12_argument_87 g7 rfl ?_
    refine x_iload_n 1 dX12_argument_90 rfl ?_
    obtain ⟨g8, hq⟩ := hq
    obtain ⟨i9, hq⟩ := hq
    refine x_iald 0 (Or.inl rfl) g8 i9 dX12_argument_91 ?_
    obtain ⟨g10, g11, hq⟩ := hq
    refine x_callV (Yc := YX12_refuse) (as := [.int 7, .int (aI h3 (fR h3 x0 3102) (Int32.toNatClampNeg x1))]) (st := []) q4095 mvX12_refuse g7 rfl dX12_argument_92 (xle (xal1 (rv_cat _) (xal1 rfl (xal1 rfl xal0))) (by decide)) (xfr g10) (xlo xsw0 (by decide) g11) (xKv hq (fun h12 hq e14 => ?_) (fun _ _ q _ => q))
    replace hq := hq e14
    refine xP.pick (lv' := [(0, rv x0), (3, .int x3), (4, rv x4)]) [0, 3, 4] rfl ?_
    exact uX12_argument_95 hq
set_option maxRecDepth 100000 in
def bX12_argument_41 (G : xG) (fr lo : Nat) (x0 : Nat) (x1 : Int32) (x2 : Nat) (x3 : Int32) (h : xH) (Q : Outcome → xH → Prop) : Prop := tg h x0 = 13 ∧ tg h (fR h x0 3102) = 100 ∧ vp_in x3 (ln h (fR h x0 3102)) ∧ 1 ≤ fr ∧ 15 ≤ lo ∧ xRr G YX12_findOf (fr - 1) (lo - 15) [rv x0, .int (aI h (fR h x0 3102) (Int32.toNatClampNeg x3)), .int 5] h (fun x7 h6 => xext h h6 → tg h6 x7 = 24 ∧ (((fI h6 x7 5903) ≤ 0 → bX12_argument_74 G fr lo x0 x1 x2 x3 x7 h6 Q) ∧ (¬ (fI h6 x7 5903) ≤ 0 → tg h6 (fR h6 x0 3102) = 100 ∧ vp_in x3 (ln h6 (fR h6 x0 3102)) ∧ 1 ≤ fr ∧ 14 ≤ lo ∧ xRv G YX12_refuse (fr - 1) (lo - 14) [rv x0, .int 6, .int (aI h6 (fR h6 x0 3102) (Int32.toNatClampNeg x3))] h6 (fun h16 => xext h6 h16 → bX12_argument_74 G fr lo x0 x1 x2 x3 x7 h16 Q) (fun r h2 => Q (.threw r) h2)))) (fun r h2 => Q (.threw r) h2)
set_option maxRecDepth 100000 in
theorem uX12_argument_41 {G : xG} {fr lo : Nat} {x0 : Nat} {x1 : Int32} {x2 : Nat} {x3 : Int32} {h : xH} {Q : Outcome → xH → Prop} (hq : bX12_argument_41 G fr lo x0 x1 x2 x3 h Q) : xP G YX12_argument fr lo 41 [(0, rv x0), (1, .int x1), (2, rv x2), (3, .int x3)] [] h Q := by
  unfold bX12_argument_41 at hq
  refine x_aload_n 0 dX12_argument_41 rfl ?_
  refine x_aload_n 0 dX12_argument_42 rfl ?_
  obtain ⟨g1, hq⟩ := hq
  refine x_get (v := rv (fR h x0 3102)) fdX12_70 dX12_argument_43 g1 rfl ?_
  refine x_iload_n 3 dX12_argument_46 rfl ?_
  obtain ⟨g2, hq⟩ := hq
  obtain ⟨i3, hq⟩ := hq
  refine x_iald 0 (Or.inl rfl) g2 i3 dX12_argument_47 ?_
  refine x_iconst (v := 5) dX12_argument_48 (by decide) ?_
  obtain ⟨g4, g5, hq⟩ := hq
  refine x_callV (Yc := YX12_findOf) (as := [.int (aI h (fR h x0 3102) (Int32.toNatClampNeg x3)), .int 5]) (st := []) q4157 mvX12_findOf g1 rfl dX12_argument_49 (xle (xal1 (rv_cat _) (xal1 rfl (xal1 rfl xal0))) (by decide)) (xfr g4) (xlo xsw0 (by decide) g5) (xKr hq (fun x7 h6 hq e8 => ?_) (fun _ _ q _ => q))
  replace hq := hq e8
  refine x_astore (lv' := [(4, rv x7), (0, rv x0), (1, .int x1), (2, rv x2), (3, .int x3)]) dX12_argument_52 (by decide) rfl ?_
  refine x_aload 0 dX12_argument_54 rfl ?_
  obtain ⟨g9, hq⟩ := hq
  refine x_get (v := .int (fI h6 x7 5903)) fdX12_632 dX12_argument_56 g9 rfl ?_
  refine x_if_le (tgt := 74) dX12_argument_59 (by decide) (fun c10 => ?_) (fun c10 => ?_)
  · replace hq := hq.1 c10
    refine xP.pick (lv' := [(0, rv x0), (1, .int x1), (2, rv x2), (3, .int x3), (4, rv x7)]) [1, 2, 3, 4, 0] rfl ?_
    exact uX12_argument_74 hq
  · replace hq := hq.2 c10
    refine x_aload_n 1 dX12_argument_62 rfl ?_
    refine x_bipush (v := 6) dX12_argument_63 (by decide) ?_
    refine x_aload_n 1 dX12_argument_65 rfl ?_
    have t11 : tg h6 x0 = 13 := e8.tg g1 (by decide)
    refine x_get (v := rv (fR h6 x0 3102)) fdX12_70 dX12_argument_66 t11 rfl ?_
    refine x_iload_n 4 dX12_argument_69 rfl ?_
    obtain ⟨g12, hq⟩ := hq
    obtain ⟨i13, hq⟩ := hq
    refine x_iald 0 (Or.inl rfl) g12 i13 dX12_argument_70 ?_
    obtain ⟨g14, g15, hq⟩ := hq
    refine x_callV (Yc := YX12_refuse) (as := [.int 6, .int (aI h6 (fR h6 x0 3102) (Int32.toNatClampNeg x3))]) (st := []) q4095 mvX12_refuse t11 rfl dX12_argument_71 (xle (xal1 (rv_cat _) (xal1 rfl (xal1 rfl xal0))) (by decide)) (xfr g14) (xlo xsw0 (by decide) g15) (xKv hq (fun h16 hq e18 => ?_) (fun _ _ q _ => q))
    replace hq := hq e18
    refine xP.pick (lv' := [(0, rv x0), (1, .int x1), (2, rv x2), (3, .int x3), (4, rv x7)]) [1, 2, 3, 4, 0] rfl ?_
    exact uX12_argument_74 hq
set_option maxRecDepth 100000 in
def bX12_argument_29 (G : xG) (fr lo : Nat) (x0 : Nat) (x1 : Int32) (x2 : Nat) (x3 : Int32) (h : xH) (Q : Outcome → xH → Prop) : Prop := tg h x0 = 13 ∧ tg h (fR h x0 3102) = 100 ∧ vp_in x1 (ln h (fR h x0 3102)) ∧ 1 ≤ fr ∧ 14 ≤ lo ∧ xRv G YX12_refuse (fr - 1) (lo - 14) [rv x0, .int 6, .int (aI h (fR h x0 3102) (Int32.toNatClampNeg x1))] h (fun h6 => xext h h6 → bX12_argument_41 G fr lo x0 x1 x2 x3 h6 Q) (fun r h2 => Q (.threw r) h2)
set_option maxRecDepth 100000 in
theorem uX12_argument_29 {G : xG} {fr lo : Nat} {x0 : Nat} {x1 : Int32} {x2 : Nat} {x3 : Int32} {h : xH} {Q : Outcome → xH → Prop} (hq : bX12_argument_29 G fr lo x0 x1 x2 x3 h Q) : xP G YX12_argument fr lo 29 [(0, rv x0), (1, .int x1), (2, rv x2), (3, .int x3)] [] h Q := by
  unfold bX12_argument_29 at hq
  refine x_aload_n 0 dX12_argument_29 rfl ?_
  refine x_bipush (v := 6) dX12_argument_30 (by decide) ?_
  refine x_aload_n 0 dX12_argument_32 rfl ?_
  obtain ⟨g1, hq⟩ := hq
  refine x_get (v := rv (fR h x0 3102)) fdX12_70 dX12_argument_33 g1 rfl ?_
  refine x_iload_n 1 dX12_argument_36 rfl ?_
  obtain ⟨g2, hq⟩ := hq
  obtain ⟨i3, hq⟩ := hq
  refine x_iald 0 (Or.inl rfl) g2 i3 dX12_argument_37 ?_
  obtain ⟨g4, g5, hq⟩ := hq
  refine x_callV (Yc := YX12_refuse) (as := [.int 6, .int (aI h (fR h x0 3102) (Int32.toNatClampNeg x1))]) (st := []) q4095 mvX12_refuse g1 rfl dX12_argument_38 (xle (xal1 (rv_cat _) (xal1 rfl (xal1 rfl xal0))) (by decide)) (xfr g4) (xlo xsw0 (by decide) g5) (xKv hq (fun h6 hq e8 => ?_) (fun _ _ q _ => q))
  replace hq := hq e8
  exact uX12_argument_41 hq
set_option maxRecDepth 100000 in
def bX12_argument (G : xG) (fr lo : Nat) (x0 : Nat) (x1 : Int32) (x2 : Nat) (h : xH) (Q : Outcome → xH → Prop) : Prop := tg h x2 = 24 ∧ ((¬ (fI h x2 5888) = 5 → (((fI h x2 5895) = 0 → tg h x0 = 13 ∧ 1 ≤ fr ∧ 16 ≤ lo ∧ xRr G YX12_checkE (fr - 1) (lo - 16) [rv x0, .int x1] h (fun x8 h7 => xext h h7 → 1 ≤ fr ∧ 14 ≤ lo ∧ xRi G YX12_fits (fr - 1) (lo - 14) [rv x0, rv x8, rv (fR h7 x2 5890)] h7 (fun x15 h14 => xext h7 h14 → ((¬ x15 = 0 → bX12_argument_200 G fr lo h14 Q) ∧ (x15 = 0 → tg h14 (fR h14 x0 3102) = 100 ∧ vp_in x1 (ln h14 (fR h14 x0 3102)) ∧ 1 ≤ fr ∧ 14 ≤ lo ∧ xRv G YX12_refuse (fr - 1) (lo - 14) [rv x0, .int 7, .int (aI h14 (fR h14 x0 3102) (Int32.toNatClampNeg x1))] h14 (fun h23 => xext h14 h23 → bX12_argument_200 G fr lo h23 Q) (fun r h2 => Q (.threw r) h2)))) (fun r h2 => Q (.threw r) h2)) (fun r h2 => Q (.threw r) h2)) ∧ (¬ (fI h x2 5895) = 0 → tg h x0 = 13 ∧ 1 ≤ fr ∧ 15 ≤ lo ∧ xRr G YX12_target (fr - 1) (lo - 15) [rv x0, .int x1] h (fun x30 h29 => xext h h29 → ((x30 = (fR h29 x2 5890) → bX12_argument_137 G fr lo x0 x1 h29 Q) ∧ (¬ x30 = (fR h29 x2 5890) → tg h29 (fR h29 x0 3102) = 100 ∧ vp_in x1 (ln h29 (fR h29 x0 3102)) ∧ 1 ≤ fr ∧ 14 ≤ lo ∧ xRv G YX12_refuse (fr - 1) (lo - 14) [rv x0, .int 7, .int (aI h29 (fR h29 x0 3102) (Int32.toNatClampNeg x1))] h29 (fun h39 => xext h29 h39 → bX12_argument_137 G fr lo x0 x1 h39 Q) (fun r h2 => Q (.threw r) h2)))) (fun r h2 => Q (.threw r) h2)))) ∧ ((fI h x2 5888) = 5 → tg h x0 = 13 ∧ 1 ≤ fr ∧ 15 ≤ lo ∧ xRi G YX12_loneVariable (fr - 1) (lo - 15) [rv x0, .int x1] h (fun x46 h45 => xext h h45 → ((x46 = (-1) → bX12_argument_29 G fr lo x0 x1 x2 x46 h45 Q) ∧ (¬ x46 = (-1) → tg h45 (fR h45 x0 3103) = 100 ∧ vp_in x46 (ln h45 (fR h45 x0 3103)) ∧ (((aI h45 (fR h45 x0 3103) (Int32.toNatClampNeg x46)) = (-1) → bX12_argument_41 G fr lo x0 x1 x2 x46 h45 Q) ∧ (¬ (aI h45 (fR h45 x0 3103) (Int32.toNatClampNeg x46)) = (-1) → bX12_argument_29 G fr lo x0 x1 x2 x46 h45 Q))))) (fun r h2 => Q (.threw r) h2)))
set_option maxRecDepth 100000 in
theorem uX12_argument {G : xG} {fr lo : Nat} {x0 : Nat} {x1 : Int32} {x2 : Nat} {h : xH} {Q : Outcome → xH → Prop} (hq : bX12_argument G fr lo x0 x1 x2 h Q) : xP G YX12_argument fr lo 0 [(0, rv x0), (1, .int x1), (2, rv x2)] [] h Q := by
  unfold bX12_argument at hq
  refine x_aload_n 2 dX12_argument_0 rfl ?_
  obtain ⟨g1, hq⟩ := hq
  refine x_get (v := .int (fI h x2 5888)) fdX12_577 dX12_argument_1 g1 rfl ?_
  refine x_iconst (v := 5) dX12_argument_4 (by decide) ?_
  refine x_icmp_ne (tgt := 106) dX12_argument_5 (by decide) (fun c2 => ?_) (fun c2 => ?_)
  · replace hq := hq.1 c2
    refine x_aload_n 2 dX12_argument_106 rfl ?_
    refine x_get (v := .int (fI h x2 5895)) fdX12_961 dX12_argument_107 g1 rfl ?_
    refine x_if_eq (tgt := 172) dX12_argument_110 (by decide) (fun c3 => ?_) (fun c3 => ?_)
    · replace hq := hq.1 c3
      refine x_aload_n 0 dX12_argument_172 rfl ?_
      refine x_aload_n 0 dX12_argument_173 rfl ?_
      refine x_iload_n 1 dX12_argument_174 rfl ?_
      obtain ⟨g4, hq⟩ := hq
      obtain ⟨g5, g6, hq⟩ := hq
      refine x_callV (Yc := YX12_checkE) (as := [.int x1]) (st := [rv x0]) q4308 mvX12_checkE g4 rfl dX12_argument_175 (xle (xal1 (rv_cat _) (xal1 rfl xal0)) (by decide)) (xfr g5) (xlo (xsw1 (rv_cat _) xsw0) (by decide) g6) (xKr hq (fun x8 h7 hq e9 => ?_) (fun _ _ q _ => q))
      replace hq := hq e9
      refine x_aload_n 2 dX12_argument_178 rfl ?_
      have t10 : tg h7 x2 = 24 := e9.tg g1 (by decide)
      refine x_get (v := rv (fR h7 x2 5890)) fdX12_612 dX12_argument_179 t10 rfl ?_
      have t11 : tg h7 x0 = 13 := e9.tg g4 (by decide)
      obtain ⟨g12, g13, hq⟩ := hq
      refine x_callV (Yc := YX12_fits) (as := [rv x8, rv (fR h7 x2 5890)]) (st := []) q4371 mvX12_fits t11 rfl dX12_argument_182 (xle (xal1 (rv_cat _) (xal1 (rv_cat _) (xal1 (rv_cat _) xal0))) (by decide)) (xfr g12) (xlo xsw0 (by decide) g13) (xKi hq (fun x15 h14 hq e16 => ?_) (fun _ _ q _ => q))
      replace hq := hq e16
      refine x_if_ne (tgt := 200) dX12_argument_185 (by decide) (fun c17 => ?_) (fun c17 => ?_)
      · replace hq := hq.1 c17
        refine xP.pick (lv' := []) [] rfl ?_
        exact uX12_argument_200 hq
      · replace hq := hq.2 c17
        refine x_aload_n 0 dX12_argument_188 rfl ?_
        refine x_bipush (v := 7) dX12_argument_189 (by decide) ?_
        refine x_aload_n 0 dX12_argument_191 rfl ?_
        have t18 : tg h14 x0 = 13 := e16.tg t11 (by decide)
        refine x_get (v := rv (fR h14 x0 3102)) fdX12_70 dX12_argument_192 t18 rfl ?_
        refine x_iload_n 1 dX12_argument_195 rfl ?_
        obtain ⟨g19, hq⟩ := hq
        obtain ⟨i20, hq⟩ := hq
        refine x_iald 0 (Or.inl rfl) g19 i20 dX12_argument_196 ?_
        obtain ⟨g21, g22, hq⟩ := hq
        refine x_callV (Yc := YX12_refuse) (as := [.int 7, .int (aI h14 (fR h14 x0 3102) (Int32.toNatClampNeg x1))]) (st := []) q4095 mvX12_refuse t18 rfl dX12_argument_197 (xle (xal1 (rv_cat _) (xal1 rfl (xal1 rfl xal0))) (by decide)) (xfr g21) (xlo xsw0 (by decide) g22) (xKv hq (fun h23 hq e25 => ?_) (fun _ _ q _ => q))
        replace hq := hq e25
        refine xP.pick (lv' := []) [] rfl ?_
        exact uX12_argument_200 hq
    · replace hq := hq.2 c3
      refine x_aload_n 0 dX12_argument_113 rfl ?_
      refine x_iload_n 1 dX12_argument_114 rfl ?_
      obtain ⟨g26, hq⟩ := hq
      obtain ⟨g27, g28, hq⟩ := hq
      refine x_callV (Yc := YX12_target) (as := [.int x1]) (st := []) q4363 mvX12_target g26 rfl dX12_argument_115 (xle (xal1 (rv_cat _) (xal1 rfl xal0)) (by decide)) (xfr g27) (xlo xsw0 (by decide) g28) (xKr hq (fun x30 h29 hq e31 => ?_) (fun _ _ q _ => q))
      replace hq := hq e31
      refine x_aload_n 2 dX12_argument_118 rfl ?_
      have t32 : tg h29 x2 = 24 := e31.tg g1 (by decide)
      refine x_get (v := rv (fR h29 x2 5890)) fdX12_612 dX12_argument_119 t32 rfl ?_
      refine x_acmp_eq (tgt := 137) dX12_argument_122 (by decide) (fun c33 => ?_) (fun c33 => ?_)
      · replace hq := hq.1 c33
        refine xP.pick (lv' := [(0, rv x0), (1, .int x1)]) [0, 1] rfl ?_
        exact uX12_argument_137 hq
      · replace hq := hq.2 c33
        refine x_aload_n 0 dX12_argument_125 rfl ?_
        refine x_bipush (v := 7) dX12_argument_126 (by decide) ?_
        refine x_aload_n 0 dX12_argument_128 rfl ?_
        have t34 : tg h29 x0 = 13 := e31.tg g26 (by decide)
        refine x_get (v := rv (fR h29 x0 3102)) fdX12_70 dX12_argument_129 t34 rfl ?_
        refine x_iload_n 1 dX12_argument_132 rfl ?_
        obtain ⟨g35, hq⟩ := hq
        obtain ⟨i36, hq⟩ := hq
        refine x_iald 0 (Or.inl rfl) g35 i36 dX12_argument_133 ?_
        obtain ⟨g37, g38, hq⟩ := hq
        refine x_callV (Yc := YX12_refuse) (as := [.int 7, .int (aI h29 (fR h29 x0 3102) (Int32.toNatClampNeg x1))]) (st := []) q4095 mvX12_refuse t34 rfl dX12_argument_134 (xle (xal1 (rv_cat _) (xal1 rfl (xal1 rfl xal0))) (by decide)) (xfr g37) (xlo xsw0 (by decide) g38) (xKv hq (fun h39 hq e41 => ?_) (fun _ _ q _ => q))
        replace hq := hq e41
        refine xP.pick (lv' := [(0, rv x0), (1, .int x1)]) [0, 1] rfl ?_
        exact uX12_argument_137 hq
  · replace hq := hq.2 c2
    refine x_aload_n 0 dX12_argument_8 rfl ?_
    refine x_iload_n 1 dX12_argument_9 rfl ?_
    obtain ⟨g42, hq⟩ := hq
    obtain ⟨g43, g44, hq⟩ := hq
    refine x_callV (Yc := YX12_loneVariable) (as := [.int x1]) (st := []) q4348 mvX12_loneVariable g42 rfl dX12_argument_10 (xle (xal1 (rv_cat _) (xal1 rfl xal0)) (by decide)) (xfr g43) (xlo xsw0 (by decide) g44) (xKi hq (fun x46 h45 hq e47 => ?_) (fun _ _ q _ => q))
    replace hq := hq e47
    refine x_istore_n (lv' := [(3, .int x46), (0, rv x0), (1, .int x1), (2, rv x2)]) dX12_argument_13 (by decide) (by first | rfl | (simp [rv_cat, Value.category]; done) | (simp [rv_cat, Value.category]; decide)) ?_
    refine x_iload_n 0 dX12_argument_14 rfl ?_
    refine x_iconst (v := (-1)) dX12_argument_15 (by decide) ?_
    refine x_icmp_eq (tgt := 29) dX12_argument_16 (by decide) (fun c48 => ?_) (fun c48 => ?_)
    · replace hq := hq.1 c48
      refine xP.pick (lv' := [(0, rv x0), (1, .int x1), (2, rv x2), (3, .int x46)]) [1, 2, 3, 0] rfl ?_
      exact uX12_argument_29 hq
    · replace hq := hq.2 c48
      refine x_aload_n 1 dX12_argument_19 rfl ?_
      have t49 : tg h45 x0 = 13 := e47.tg g42 (by decide)
      refine x_get (v := rv (fR h45 x0 3103)) fdX12_73 dX12_argument_20 t49 rfl ?_
      refine x_iload_n 0 dX12_argument_23 rfl ?_
      obtain ⟨g50, hq⟩ := hq
      obtain ⟨i51, hq⟩ := hq
      refine x_iald 0 (Or.inl rfl) g50 i51 dX12_argument_24 ?_
      refine x_iconst (v := (-1)) dX12_argument_25 (by decide) ?_
      refine x_icmp_eq (tgt := 41) dX12_argument_26 (by decide) (fun c52 => ?_) (fun c52 => ?_)
      · replace hq := hq.1 c52
        refine xP.pick (lv' := [(0, rv x0), (1, .int x1), (2, rv x2), (3, .int x46)]) [1, 2, 3, 0] rfl ?_
        exact uX12_argument_41 hq
      · replace hq := hq.2 c52
        refine xP.pick (lv' := [(0, rv x0), (1, .int x1), (2, rv x2), (3, .int x46)]) [1, 2, 3, 0] rfl ?_
        exact uX12_argument_29 hq
theorem rX12_argument {G : xG} {fr lo : Nat} {x0 : Nat} {x1 : Int32} {x2 : Nat} {h : xH} {Q : Outcome → xH → Prop} (hq : bX12_argument G fr lo x0 x1 x2 h Q) : xR G YX12_argument fr lo [rv x0, .int x1, rv x2] h Q := by
  show xP _ _ _ _ _ (lv_args 0 _) _ _ _
  rw [show lv_args 0 [rv x0, .int x1, rv x2] = [(0, rv x0), (1, .int x1), (2, rv x2)] from (xla1 (rv_cat _) (xla1 rfl (xla1 (rv_cat _) xla0)))]
  exact uX12_argument hq
