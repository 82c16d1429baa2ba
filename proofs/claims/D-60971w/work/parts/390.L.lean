/-! PascalHouseLaw, walked (1) -/
set_option maxRecDepth 100000 in
theorem dL_law_0 : decode cL_law 0 = .ok (.new 7, 3) := by decide +kernel
set_option maxRecDepth 100000 in
theorem dL_law_3 : decode cL_law 3 = .ok (.dup, 1) := by decide +kernel
set_option maxRecDepth 100000 in
theorem dL_law_4 : decode cL_law 4 = .ok (.invokespecial 9, 3) := by decide +kernel
set_option maxRecDepth 100000 in
theorem dL_law_7 : decode cL_law 7 = .ok (.astore_n 1, 1) := by decide +kernel
set_option maxRecDepth 100000 in
theorem dL_law_8 : decode cL_law 8 = .ok (.new 10, 3) := by decide +kernel
set_option maxRecDepth 100000 in
theorem dL_law_11 : decode cL_law 11 = .ok (.dup, 1) := by decide +kernel
set_option maxRecDepth 100000 in
theorem dL_law_12 : decode cL_law 12 = .ok (.invokespecial 12, 3) := by decide +kernel
set_option maxRecDepth 100000 in
theorem dL_law_15 : decode cL_law 15 = .ok (.astore_n 2, 1) := by decide +kernel
set_option maxRecDepth 100000 in
theorem dL_law_16 : decode cL_law 16 = .ok (.iconst 0, 1) := by decide +kernel
set_option maxRecDepth 100000 in
theorem dL_law_17 : decode cL_law 17 = .ok (.istore_n 3, 1) := by decide +kernel
set_option maxRecDepth 100000 in
theorem dL_law_18 : decode cL_law 18 = .ok (.iload_n 3, 1) := by decide +kernel
set_option maxRecDepth 100000 in
theorem dL_law_19 : decode cL_law 19 = .ok (.aload_n 0, 1) := by decide +kernel
set_option maxRecDepth 100000 in
theorem dL_law_20 : decode cL_law 20 = .ok (.arraylength, 1) := by decide +kernel
set_option maxRecDepth 100000 in
theorem dL_law_21 : decode cL_law 21 = .ok (.bipush 6, 2) := by decide +kernel
set_option maxRecDepth 100000 in
theorem dL_law_23 : decode cL_law 23 = .ok (.isub, 1) := by decide +kernel
set_option maxRecDepth 100000 in
theorem dL_law_24 : decode cL_law 24 = .ok (.if_icmp .gt 310, 3) := by decide +kernel
set_option maxRecDepth 100000 in
theorem dL_law_27 : decode cL_law 27 = .ok (.aload_n 0, 1) := by decide +kernel
set_option maxRecDepth 100000 in
theorem dL_law_28 : decode cL_law 28 = .ok (.iload_n 3, 1) := by decide +kernel
set_option maxRecDepth 100000 in
theorem dL_law_29 : decode cL_law 29 = .ok (.iaload, 1) := by decide +kernel
set_option maxRecDepth 100000 in
theorem dL_law_30 : decode cL_law 30 = .ok (.bipush 15, 2) := by decide +kernel
set_option maxRecDepth 100000 in
theorem dL_law_32 : decode cL_law 32 = .ok (.iand, 1) := by decide +kernel
set_option maxRecDepth 100000 in
theorem dL_law_33 : decode cL_law 33 = .ok (.tableswitch 295 0 9 #[55, 118, 141, 154, 167, 190, 213, 226, 239, 272], 55) := by decide +kernel
set_option maxRecDepth 100000 in
theorem dL_law_88 : decode cL_law 88 = .ok (.aload_n 1, 1) := by decide +kernel
set_option maxRecDepth 100000 in
theorem dL_law_89 : decode cL_law 89 = .ok (.aload_n 0, 1) := by decide +kernel
set_option maxRecDepth 100000 in
theorem dL_law_90 : decode cL_law 90 = .ok (.iload_n 3, 1) := by decide +kernel
set_option maxRecDepth 100000 in
theorem dL_law_91 : decode cL_law 91 = .ok (.iconst 1, 1) := by decide +kernel
set_option maxRecDepth 100000 in
theorem dL_law_92 : decode cL_law 92 = .ok (.iadd, 1) := by decide +kernel
set_option maxRecDepth 100000 in
theorem dL_law_93 : decode cL_law 93 = .ok (.iaload, 1) := by decide +kernel
set_option maxRecDepth 100000 in
theorem dL_law_94 : decode cL_law 94 = .ok (.aload_n 0, 1) := by decide +kernel
set_option maxRecDepth 100000 in
theorem dL_law_95 : decode cL_law 95 = .ok (.iload_n 3, 1) := by decide +kernel
set_option maxRecDepth 100000 in
theorem dL_law_96 : decode cL_law 96 = .ok (.iconst 2, 1) := by decide +kernel
set_option maxRecDepth 100000 in
theorem dL_law_97 : decode cL_law 97 = .ok (.iadd, 1) := by decide +kernel
set_option maxRecDepth 100000 in
theorem dL_law_98 : decode cL_law 98 = .ok (.iaload, 1) := by decide +kernel
set_option maxRecDepth 100000 in
theorem dL_law_99 : decode cL_law 99 = .ok (.aload_n 0, 1) := by decide +kernel
set_option maxRecDepth 100000 in
theorem dL_law_100 : decode cL_law 100 = .ok (.iload_n 3, 1) := by decide +kernel
set_option maxRecDepth 100000 in
theorem dL_law_101 : decode cL_law 101 = .ok (.iconst 3, 1) := by decide +kernel
set_option maxRecDepth 100000 in
theorem dL_law_102 : decode cL_law 102 = .ok (.iadd, 1) := by decide +kernel
set_option maxRecDepth 100000 in
theorem dL_law_103 : decode cL_law 103 = .ok (.iaload, 1) := by decide +kernel
set_option maxRecDepth 100000 in
theorem dL_law_104 : decode cL_law 104 = .ok (.aload_n 0, 1) := by decide +kernel
set_option maxRecDepth 100000 in
theorem dL_law_105 : decode cL_law 105 = .ok (.iload_n 3, 1) := by decide +kernel
set_option maxRecDepth 100000 in
theorem dL_law_106 : decode cL_law 106 = .ok (.iconst 4, 1) := by decide +kernel
set_option maxRecDepth 100000 in
theorem dL_law_107 : decode cL_law 107 = .ok (.iadd, 1) := by decide +kernel
set_option maxRecDepth 100000 in
theorem dL_law_108 : decode cL_law 108 = .ok (.iaload, 1) := by decide +kernel
set_option maxRecDepth 100000 in
theorem dL_law_109 : decode cL_law 109 = .ok (.aload_n 0, 1) := by decide +kernel
set_option maxRecDepth 100000 in
theorem dL_law_110 : decode cL_law 110 = .ok (.iload_n 3, 1) := by decide +kernel
set_option maxRecDepth 100000 in
theorem dL_law_111 : decode cL_law 111 = .ok (.iconst 5, 1) := by decide +kernel
set_option maxRecDepth 100000 in
theorem dL_law_112 : decode cL_law 112 = .ok (.iadd, 1) := by decide +kernel
set_option maxRecDepth 100000 in
theorem dL_law_113 : decode cL_law 113 = .ok (.iaload, 1) := by decide +kernel
set_option maxRecDepth 100000 in
theorem dL_law_114 : decode cL_law 114 = .ok (.invokevirtual 13, 3) := by decide +kernel
set_option maxRecDepth 100000 in
theorem dL_law_117 : decode cL_law 117 = .ok (.aload_n 2, 1) := by decide +kernel
set_option maxRecDepth 100000 in
theorem dL_law_118 : decode cL_law 118 = .ok (.aload_n 0, 1) := by decide +kernel
set_option maxRecDepth 100000 in
theorem dL_law_119 : decode cL_law 119 = .ok (.iload_n 3, 1) := by decide +kernel
set_option maxRecDepth 100000 in
theorem dL_law_120 : decode cL_law 120 = .ok (.iconst 1, 1) := by decide +kernel
set_option maxRecDepth 100000 in
theorem dL_law_121 : decode cL_law 121 = .ok (.iadd, 1) := by decide +kernel
set_option maxRecDepth 100000 in
theorem dL_law_122 : decode cL_law 122 = .ok (.iaload, 1) := by decide +kernel
set_option maxRecDepth 100000 in
theorem dL_law_123 : decode cL_law 123 = .ok (.aload_n 0, 1) := by decide +kernel
set_option maxRecDepth 100000 in
theorem dL_law_124 : decode cL_law 124 = .ok (.iload_n 3, 1) := by decide +kernel
set_option maxRecDepth 100000 in
theorem dL_law_125 : decode cL_law 125 = .ok (.iconst 2, 1) := by decide +kernel
set_option maxRecDepth 100000 in
theorem dL_law_126 : decode cL_law 126 = .ok (.iadd, 1) := by decide +kernel
set_option maxRecDepth 100000 in
theorem dL_law_127 : decode cL_law 127 = .ok (.iaload, 1) := by decide +kernel
set_option maxRecDepth 100000 in
theorem dL_law_128 : decode cL_law 128 = .ok (.aload_n 0, 1) := by decide +kernel
set_option maxRecDepth 100000 in
theorem dL_law_129 : decode cL_law 129 = .ok (.iload_n 3, 1) := by decide +kernel
set_option maxRecDepth 100000 in
theorem dL_law_130 : decode cL_law 130 = .ok (.iconst 3, 1) := by decide +kernel
set_option maxRecDepth 100000 in
theorem dL_law_131 : decode cL_law 131 = .ok (.iadd, 1) := by decide +kernel
set_option maxRecDepth 100000 in
theorem dL_law_132 : decode cL_law 132 = .ok (.iaload, 1) := by decide +kernel
set_option maxRecDepth 100000 in
theorem dL_law_133 : decode cL_law 133 = .ok (.aload_n 0, 1) := by decide +kernel
set_option maxRecDepth 100000 in
theorem dL_law_134 : decode cL_law 134 = .ok (.iload_n 3, 1) := by decide +kernel
set_option maxRecDepth 100000 in
theorem dL_law_135 : decode cL_law 135 = .ok (.iconst 4, 1) := by decide +kernel
set_option maxRecDepth 100000 in
theorem dL_law_136 : decode cL_law 136 = .ok (.iadd, 1) := by decide +kernel
set_option maxRecDepth 100000 in
theorem dL_law_137 : decode cL_law 137 = .ok (.iaload, 1) := by decide +kernel
set_option maxRecDepth 100000 in
theorem dL_law_138 : decode cL_law 138 = .ok (.aload_n 0, 1) := by decide +kernel
set_option maxRecDepth 100000 in
theorem dL_law_139 : decode cL_law 139 = .ok (.iload_n 3, 1) := by decide +kernel
set_option maxRecDepth 100000 in
theorem dL_law_140 : decode cL_law 140 = .ok (.iconst 5, 1) := by decide +kernel
set_option maxRecDepth 100000 in
theorem dL_law_141 : decode cL_law 141 = .ok (.iadd, 1) := by decide +kernel
set_option maxRecDepth 100000 in
theorem dL_law_142 : decode cL_law 142 = .ok (.iaload, 1) := by decide +kernel
set_option maxRecDepth 100000 in
theorem dL_law_143 : decode cL_law 143 = .ok (.invokevirtual 17, 3) := by decide +kernel
set_option maxRecDepth 100000 in
theorem dL_law_146 : decode cL_law 146 = .ok (.if_icmp .eq 182, 3) := by decide +kernel
set_option maxRecDepth 100000 in
theorem dL_law_149 : decode cL_law 149 = .ok (.iconst 0, 1) := by decide +kernel
set_option maxRecDepth 100000 in
theorem dL_law_150 : decode cL_law 150 = .ok (.ireturn, 1) := by decide +kernel
set_option maxRecDepth 100000 in
theorem dL_law_151 : decode cL_law 151 = .ok (.aload_n 1, 1) := by decide +kernel
set_option maxRecDepth 100000 in
theorem dL_law_152 : decode cL_law 152 = .ok (.aload_n 0, 1) := by decide +kernel
set_option maxRecDepth 100000 in
theorem dL_law_153 : decode cL_law 153 = .ok (.iload_n 3, 1) := by decide +kernel
set_option maxRecDepth 100000 in
theorem dL_law_154 : decode cL_law 154 = .ok (.iconst 1, 1) := by decide +kernel
set_option maxRecDepth 100000 in
theorem dL_law_155 : decode cL_law 155 = .ok (.iadd, 1) := by decide +kernel
set_option maxRecDepth 100000 in
theorem dL_law_156 : decode cL_law 156 = .ok (.iaload, 1) := by decide +kernel
set_option maxRecDepth 100000 in
theorem dL_law_157 : decode cL_law 157 = .ok (.invokevirtual 18, 3) := by decide +kernel
set_option maxRecDepth 100000 in
theorem dL_law_160 : decode cL_law 160 = .ok (.aload_n 2, 1) := by decide +kernel
set_option maxRecDepth 100000 in
theorem dL_law_161 : decode cL_law 161 = .ok (.aload_n 0, 1) := by decide +kernel
set_option maxRecDepth 100000 in
theorem dL_law_162 : decode cL_law 162 = .ok (.iload_n 3, 1) := by decide +kernel
set_option maxRecDepth 100000 in
theorem dL_law_163 : decode cL_law 163 = .ok (.iconst 1, 1) := by decide +kernel
set_option maxRecDepth 100000 in
theorem dL_law_164 : decode cL_law 164 = .ok (.iadd, 1) := by decide +kernel
set_option maxRecDepth 100000 in
theorem dL_law_165 : decode cL_law 165 = .ok (.iaload, 1) := by decide +kernel
set_option maxRecDepth 100000 in
theorem dL_law_166 : decode cL_law 166 = .ok (.invokevirtual 22, 3) := by decide +kernel
set_option maxRecDepth 100000 in
theorem dL_law_169 : decode cL_law 169 = .ok (.if_icmp .eq 159, 3) := by decide +kernel
set_option maxRecDepth 100000 in
theorem dL_law_172 : decode cL_law 172 = .ok (.iconst 0, 1) := by decide +kernel
set_option maxRecDepth 100000 in
theorem dL_law_173 : decode cL_law 173 = .ok (.ireturn, 1) := by decide +kernel
set_option maxRecDepth 100000 in
theorem dL_law_174 : decode cL_law 174 = .ok (.aload_n 1, 1) := by decide +kernel
set_option maxRecDepth 100000 in
theorem dL_law_175 : decode cL_law 175 = .ok (.invokevirtual 23, 3) := by decide +kernel
set_option maxRecDepth 100000 in
theorem dL_law_178 : decode cL_law 178 = .ok (.aload_n 2, 1) := by decide +kernel
set_option maxRecDepth 100000 in
theorem dL_law_179 : decode cL_law 179 = .ok (.invokevirtual 27, 3) := by decide +kernel
set_option maxRecDepth 100000 in
theorem dL_law_182 : decode cL_law 182 = .ok (.if_icmp .eq 146, 3) := by decide +kernel
set_option maxRecDepth 100000 in
theorem dL_law_185 : decode cL_law 185 = .ok (.iconst 0, 1) := by decide +kernel
set_option maxRecDepth 100000 in
theorem dL_law_186 : decode cL_law 186 = .ok (.ireturn, 1) := by decide +kernel
set_option maxRecDepth 100000 in
theorem dL_law_187 : decode cL_law 187 = .ok (.aload_n 1, 1) := by decide +kernel
set_option maxRecDepth 100000 in
theorem dL_law_188 : decode cL_law 188 = .ok (.invokevirtual 28, 3) := by decide +kernel
set_option maxRecDepth 100000 in
theorem dL_law_191 : decode cL_law 191 = .ok (.aload_n 2, 1) := by decide +kernel
set_option maxRecDepth 100000 in
theorem dL_law_192 : decode cL_law 192 = .ok (.invokevirtual 31, 3) := by decide +kernel
set_option maxRecDepth 100000 in
theorem dL_law_195 : decode cL_law 195 = .ok (.if_icmp .eq 133, 3) := by decide +kernel
set_option maxRecDepth 100000 in
theorem dL_law_198 : decode cL_law 198 = .ok (.iconst 0, 1) := by decide +kernel
set_option maxRecDepth 100000 in
theorem dL_law_199 : decode cL_law 199 = .ok (.ireturn, 1) := by decide +kernel
set_option maxRecDepth 100000 in
theorem dL_law_200 : decode cL_law 200 = .ok (.aload_n 1, 1) := by decide +kernel
set_option maxRecDepth 100000 in
theorem dL_law_201 : decode cL_law 201 = .ok (.aload_n 0, 1) := by decide +kernel
set_option maxRecDepth 100000 in
theorem dL_law_202 : decode cL_law 202 = .ok (.iload_n 3, 1) := by decide +kernel
set_option maxRecDepth 100000 in
theorem dL_law_203 : decode cL_law 203 = .ok (.iconst 1, 1) := by decide +kernel
set_option maxRecDepth 100000 in
theorem dL_law_204 : decode cL_law 204 = .ok (.iadd, 1) := by decide +kernel
set_option maxRecDepth 100000 in
theorem dL_law_205 : decode cL_law 205 = .ok (.iaload, 1) := by decide +kernel
set_option maxRecDepth 100000 in
theorem dL_law_206 : decode cL_law 206 = .ok (.invokevirtual 32, 3) := by decide +kernel
set_option maxRecDepth 100000 in
theorem dL_law_209 : decode cL_law 209 = .ok (.aload_n 2, 1) := by decide +kernel
set_option maxRecDepth 100000 in
theorem dL_law_210 : decode cL_law 210 = .ok (.aload_n 0, 1) := by decide +kernel
set_option maxRecDepth 100000 in
theorem dL_law_211 : decode cL_law 211 = .ok (.iload_n 3, 1) := by decide +kernel
set_option maxRecDepth 100000 in
theorem dL_law_212 : decode cL_law 212 = .ok (.iconst 1, 1) := by decide +kernel
set_option maxRecDepth 100000 in
theorem dL_law_213 : decode cL_law 213 = .ok (.iadd, 1) := by decide +kernel
set_option maxRecDepth 100000 in
theorem dL_law_214 : decode cL_law 214 = .ok (.iaload, 1) := by decide +kernel
set_option maxRecDepth 100000 in
theorem dL_law_215 : decode cL_law 215 = .ok (.invokevirtual 36, 3) := by decide +kernel
set_option maxRecDepth 100000 in
theorem dL_law_218 : decode cL_law 218 = .ok (.if_icmp .eq 110, 3) := by decide +kernel
set_option maxRecDepth 100000 in
theorem dL_law_221 : decode cL_law 221 = .ok (.iconst 0, 1) := by decide +kernel
set_option maxRecDepth 100000 in
theorem dL_law_222 : decode cL_law 222 = .ok (.ireturn, 1) := by decide +kernel
set_option maxRecDepth 100000 in
theorem dL_law_223 : decode cL_law 223 = .ok (.aload_n 1, 1) := by decide +kernel
set_option maxRecDepth 100000 in
theorem dL_law_224 : decode cL_law 224 = .ok (.aload_n 0, 1) := by decide +kernel
set_option maxRecDepth 100000 in
theorem dL_law_225 : decode cL_law 225 = .ok (.iload_n 3, 1) := by decide +kernel
set_option maxRecDepth 100000 in
theorem dL_law_226 : decode cL_law 226 = .ok (.iconst 1, 1) := by decide +kernel
set_option maxRecDepth 100000 in
theorem dL_law_227 : decode cL_law 227 = .ok (.iadd, 1) := by decide +kernel
set_option maxRecDepth 100000 in
theorem dL_law_228 : decode cL_law 228 = .ok (.iaload, 1) := by decide +kernel
set_option maxRecDepth 100000 in
theorem dL_law_229 : decode cL_law 229 = .ok (.invokevirtual 37, 3) := by decide +kernel
set_option maxRecDepth 100000 in
theorem dL_law_232 : decode cL_law 232 = .ok (.aload_n 2, 1) := by decide +kernel
set_option maxRecDepth 100000 in
theorem dL_law_233 : decode cL_law 233 = .ok (.aload_n 0, 1) := by decide +kernel
set_option maxRecDepth 100000 in
theorem dL_law_234 : decode cL_law 234 = .ok (.iload_n 3, 1) := by decide +kernel
set_option maxRecDepth 100000 in
theorem dL_law_235 : decode cL_law 235 = .ok (.iconst 1, 1) := by decide +kernel
set_option maxRecDepth 100000 in
theorem dL_law_236 : decode cL_law 236 = .ok (.iadd, 1) := by decide +kernel
set_option maxRecDepth 100000 in
theorem dL_law_237 : decode cL_law 237 = .ok (.iaload, 1) := by decide +kernel
set_option maxRecDepth 100000 in
theorem dL_law_238 : decode cL_law 238 = .ok (.invokevirtual 40, 3) := by decide +kernel
set_option maxRecDepth 100000 in
theorem dL_law_241 : decode cL_law 241 = .ok (.if_icmp .eq 87, 3) := by decide +kernel
set_option maxRecDepth 100000 in
theorem dL_law_244 : decode cL_law 244 = .ok (.iconst 0, 1) := by decide +kernel
set_option maxRecDepth 100000 in
theorem dL_law_245 : decode cL_law 245 = .ok (.ireturn, 1) := by decide +kernel
set_option maxRecDepth 100000 in
theorem dL_law_246 : decode cL_law 246 = .ok (.aload_n 1, 1) := by decide +kernel
set_option maxRecDepth 100000 in
theorem dL_law_247 : decode cL_law 247 = .ok (.invokevirtual 41, 3) := by decide +kernel
set_option maxRecDepth 100000 in
theorem dL_law_250 : decode cL_law 250 = .ok (.aload_n 2, 1) := by decide +kernel
set_option maxRecDepth 100000 in
theorem dL_law_251 : decode cL_law 251 = .ok (.invokevirtual 44, 3) := by decide +kernel
set_option maxRecDepth 100000 in
theorem dL_law_254 : decode cL_law 254 = .ok (.if_icmp .eq 74, 3) := by decide +kernel
set_option maxRecDepth 100000 in
theorem dL_law_257 : decode cL_law 257 = .ok (.iconst 0, 1) := by decide +kernel
set_option maxRecDepth 100000 in
theorem dL_law_258 : decode cL_law 258 = .ok (.ireturn, 1) := by decide +kernel
set_option maxRecDepth 100000 in
theorem dL_law_259 : decode cL_law 259 = .ok (.aload_n 1, 1) := by decide +kernel
set_option maxRecDepth 100000 in
theorem dL_law_260 : decode cL_law 260 = .ok (.invokevirtual 45, 3) := by decide +kernel
set_option maxRecDepth 100000 in
theorem dL_law_263 : decode cL_law 263 = .ok (.aload_n 2, 1) := by decide +kernel
set_option maxRecDepth 100000 in
theorem dL_law_264 : decode cL_law 264 = .ok (.invokevirtual 48, 3) := by decide +kernel
set_option maxRecDepth 100000 in
theorem dL_law_267 : decode cL_law 267 = .ok (.if_icmp .eq 61, 3) := by decide +kernel
set_option maxRecDepth 100000 in
theorem dL_law_270 : decode cL_law 270 = .ok (.iconst 0, 1) := by decide +kernel
set_option maxRecDepth 100000 in
theorem dL_law_271 : decode cL_law 271 = .ok (.ireturn, 1) := by decide +kernel
set_option maxRecDepth 100000 in
theorem dL_law_272 : decode cL_law 272 = .ok (.aload_n 1, 1) := by decide +kernel
set_option maxRecDepth 100000 in
theorem dL_law_273 : decode cL_law 273 = .ok (.aload_n 0, 1) := by decide +kernel
set_option maxRecDepth 100000 in
theorem dL_law_274 : decode cL_law 274 = .ok (.iload_n 3, 1) := by decide +kernel
set_option maxRecDepth 100000 in
theorem dL_law_275 : decode cL_law 275 = .ok (.iconst 1, 1) := by decide +kernel
set_option maxRecDepth 100000 in
theorem dL_law_276 : decode cL_law 276 = .ok (.iadd, 1) := by decide +kernel
set_option maxRecDepth 100000 in
theorem dL_law_277 : decode cL_law 277 = .ok (.iaload, 1) := by decide +kernel
set_option maxRecDepth 100000 in
theorem dL_law_278 : decode cL_law 278 = .ok (.aload_n 0, 1) := by decide +kernel
set_option maxRecDepth 100000 in
theorem dL_law_279 : decode cL_law 279 = .ok (.iload_n 3, 1) := by decide +kernel
set_option maxRecDepth 100000 in
theorem dL_law_280 : decode cL_law 280 = .ok (.iconst 2, 1) := by decide +kernel
set_option maxRecDepth 100000 in
theorem dL_law_281 : decode cL_law 281 = .ok (.iadd, 1) := by decide +kernel
set_option maxRecDepth 100000 in
theorem dL_law_282 : decode cL_law 282 = .ok (.iaload, 1) := by decide +kernel
set_option maxRecDepth 100000 in
theorem dL_law_283 : decode cL_law 283 = .ok (.invokevirtual 49, 3) := by decide +kernel
set_option maxRecDepth 100000 in
theorem dL_law_286 : decode cL_law 286 = .ok (.aload_n 2, 1) := by decide +kernel
set_option maxRecDepth 100000 in
theorem dL_law_287 : decode cL_law 287 = .ok (.aload_n 0, 1) := by decide +kernel
set_option maxRecDepth 100000 in
theorem dL_law_288 : decode cL_law 288 = .ok (.iload_n 3, 1) := by decide +kernel
set_option maxRecDepth 100000 in
theorem dL_law_289 : decode cL_law 289 = .ok (.iconst 1, 1) := by decide +kernel
set_option maxRecDepth 100000 in
theorem dL_law_290 : decode cL_law 290 = .ok (.iadd, 1) := by decide +kernel
set_option maxRecDepth 100000 in
theorem dL_law_291 : decode cL_law 291 = .ok (.iaload, 1) := by decide +kernel
set_option maxRecDepth 100000 in
theorem dL_law_292 : decode cL_law 292 = .ok (.aload_n 0, 1) := by decide +kernel
set_option maxRecDepth 100000 in
theorem dL_law_293 : decode cL_law 293 = .ok (.iload_n 3, 1) := by decide +kernel
set_option maxRecDepth 100000 in
theorem dL_law_294 : decode cL_law 294 = .ok (.iconst 2, 1) := by decide +kernel
set_option maxRecDepth 100000 in
theorem dL_law_295 : decode cL_law 295 = .ok (.iadd, 1) := by decide +kernel
set_option maxRecDepth 100000 in
theorem dL_law_296 : decode cL_law 296 = .ok (.iaload, 1) := by decide +kernel
set_option maxRecDepth 100000 in
theorem dL_law_297 : decode cL_law 297 = .ok (.invokevirtual 53, 3) := by decide +kernel
set_option maxRecDepth 100000 in
theorem dL_law_300 : decode cL_law 300 = .ok (.if_icmp .eq 28, 3) := by decide +kernel
set_option maxRecDepth 100000 in
theorem dL_law_303 : decode cL_law 303 = .ok (.iconst 0, 1) := by decide +kernel
set_option maxRecDepth 100000 in
theorem dL_law_304 : decode cL_law 304 = .ok (.ireturn, 1) := by decide +kernel
set_option maxRecDepth 100000 in
theorem dL_law_305 : decode cL_law 305 = .ok (.aload_n 1, 1) := by decide +kernel
set_option maxRecDepth 100000 in
theorem dL_law_306 : decode cL_law 306 = .ok (.aload_n 0, 1) := by decide +kernel
set_option maxRecDepth 100000 in
theorem dL_law_307 : decode cL_law 307 = .ok (.iload_n 3, 1) := by decide +kernel
set_option maxRecDepth 100000 in
theorem dL_law_308 : decode cL_law 308 = .ok (.iconst 1, 1) := by decide +kernel
set_option maxRecDepth 100000 in
theorem dL_law_309 : decode cL_law 309 = .ok (.iadd, 1) := by decide +kernel
set_option maxRecDepth 100000 in
theorem dL_law_310 : decode cL_law 310 = .ok (.iaload, 1) := by decide +kernel
set_option maxRecDepth 100000 in
theorem dL_law_311 : decode cL_law 311 = .ok (.invokevirtual 54, 3) := by decide +kernel
set_option maxRecDepth 100000 in
theorem dL_law_314 : decode cL_law 314 = .ok (.aload_n 2, 1) := by decide +kernel
set_option maxRecDepth 100000 in
theorem dL_law_315 : decode cL_law 315 = .ok (.aload_n 0, 1) := by decide +kernel
set_option maxRecDepth 100000 in
theorem dL_law_316 : decode cL_law 316 = .ok (.iload_n 3, 1) := by decide +kernel
set_option maxRecDepth 100000 in
theorem dL_law_317 : decode cL_law 317 = .ok (.iconst 1, 1) := by decide +kernel
set_option maxRecDepth 100000 in
theorem dL_law_318 : decode cL_law 318 = .ok (.iadd, 1) := by decide +kernel
set_option maxRecDepth 100000 in
theorem dL_law_319 : decode cL_law 319 = .ok (.iaload, 1) := by decide +kernel
set_option maxRecDepth 100000 in
theorem dL_law_320 : decode cL_law 320 = .ok (.invokevirtual 57, 3) := by decide +kernel
set_option maxRecDepth 100000 in
theorem dL_law_323 : decode cL_law 323 = .ok (.if_icmp .eq 5, 3) := by decide +kernel
set_option maxRecDepth 100000 in
theorem dL_law_326 : decode cL_law 326 = .ok (.iconst 0, 1) := by decide +kernel
set_option maxRecDepth 100000 in
theorem dL_law_327 : decode cL_law 327 = .ok (.ireturn, 1) := by decide +kernel
set_option maxRecDepth 100000 in
theorem dL_law_328 : decode cL_law 328 = .ok (.iinc 3 6, 3) := by decide +kernel
set_option maxRecDepth 100000 in
theorem dL_law_331 : decode cL_law 331 = .ok (.goto (-313), 3) := by decide +kernel
set_option maxRecDepth 100000 in
theorem dL_law_334 : decode cL_law 334 = .ok (.iconst 1, 1) := by decide +kernel
set_option maxRecDepth 100000 in
theorem dL_law_335 : decode cL_law 335 = .ok (.ireturn, 1) := by decide +kernel
def lL_law_18 (G : xG) (fr lo : Nat) (x0 : Nat) (x1 : Nat) (x2 : Nat) (x3 : Int32) (h : xH) (Q : Outcome → xH → Prop) : Prop := xP G YL_law fr lo 18 [(0, rv x0), (1, rv x1), (2, rv x2), (3, .int x3)] [] h Q
set_option maxRecDepth 100000 in
def bL_law_328 (G : xG) (fr lo : Nat) (x0 : Nat) (x1 : Nat) (x2 : Nat) (x3 : Int32) (h : xH) (Q : Outcome → xH → Prop) : Prop := lL_law_18 G fr lo x0 x1 x2 (x3 + 6) h Q
set_option maxRecDepth 100000 in
theorem uL_law_328 {G : xG} {fr lo : Nat} {x0 : Nat} {x1 : Nat} {x2 : Nat} {x3 : Int32} {h : xH} {Q : Outcome → xH → Prop} (hq : bL_law_328 G fr lo x0 x1 x2 x3 h Q) : xP G YL_law fr lo 328 [(0, rv x0), (1, rv x1), (2, rv x2), (3, .int x3)] [] h Q := by
  unfold bL_law_328 at hq
  refine x_iinc (lv' := [(3, .int (x3 + 6)), (0, rv x0), (1, rv x1), (2, rv x2)]) 3 dL_law_328 rfl (by decide) (by first | rfl | (simp [rv_cat, Value.category]; done) | (simp [rv_cat, Value.category]; decide)) ?_
  refine x_goto (tgt := 18) dL_law_331 (by decide) ?_
  refine xP.pick (lv' := [(0, rv x0), (1, rv x1), (2, rv x2), (3, .int (x3 + 6))]) [1, 2, 3, 0] rfl ?_
  exact hq
set_option maxRecDepth 100000 in
def bL_law_18 (G : xG) (fr lo : Nat) (x0 : Nat) (x1 : Nat) (x2 : Nat) (x3 : Int32) (h : xH) (Q : Outcome → xH → Prop) : Prop := tg h x0 = 111 ∧ ((((Int32.ofNat (ln h x0)) - 6) < x3 → Q (.returned (some (.int 1))) h) ∧ (¬ ((Int32.ofNat (ln h x0)) - 6) < x3 → vp_in x3 (ln h x0) ∧ ((((aI h x0 (Int32.toNatClampNeg x3)) &&& 15) = 0 → vp_in (x3 + 1) (ln h x0) ∧ vp_in (x3 + 2) (ln h x0) ∧ vp_in (x3 + 3) (ln h x0) ∧ vp_in (x3 + 4) (ln h x0) ∧ vp_in (x3 + 5) (ln h x0) ∧ tg h x1 = 1 ∧ 1 ≤ fr ∧ 17 ≤ lo ∧ xRi G YX0_feed (fr - 1) (lo - 17) [rv x1, .int (aI h x0 (Int32.toNatClampNeg (x3 + 1))), .int (aI h x0 (Int32.toNatClampNeg (x3 + 2))), .int (aI h x0 (Int32.toNatClampNeg (x3 + 3))), .int (aI h x0 (Int32.toNatClampNeg (x3 + 4))), .int (aI h x0 (Int32.toNatClampNeg (x3 + 5)))] h (fun x14 h13 => xext h h13 → vp_in (x3 + 1) (ln h13 x0) ∧ vp_in (x3 + 2) (ln h13 x0) ∧ vp_in (x3 + 3) (ln h13 x0) ∧ vp_in (x3 + 4) (ln h13 x0) ∧ vp_in (x3 + 5) (ln h13 x0) ∧ tg h13 x2 = 13 ∧ 1 ≤ fr ∧ 20 ≤ lo ∧ xRi G YX12_feed (fr - 1) (lo - 20) [rv x2, .int (aI h13 x0 (Int32.toNatClampNeg (x3 + 1))), .int (aI h13 x0 (Int32.toNatClampNeg (x3 + 2))), .int (aI h13 x0 (Int32.toNatClampNeg (x3 + 3))), .int (aI h13 x0 (Int32.toNatClampNeg (x3 + 4))), .int (aI h13 x0 (Int32.toNatClampNeg (x3 + 5)))] h13 (fun x26 h25 => xext h13 h25 → ((x14 = x26 → bL_law_328 G fr lo x0 x1 x2 x3 h25 Q) ∧ (¬ x14 = x26 → Q (.returned (some (.int 0))) h25))) (fun r h2 => Q (.threw r) h2)) (fun r h2 => Q (.threw r) h2)) ∧ (((aI h x0 (Int32.toNatClampNeg x3)) &&& 15) = 1 → vp_in (x3 + 1) (ln h x0) ∧ tg h x1 = 1 ∧ 1 ≤ fr ∧ 14 ≤ lo ∧ xRi G YX0_end (fr - 1) (lo - 14) [rv x1, .int (aI h x0 (Int32.toNatClampNeg (x3 + 1)))] h (fun x35 h34 => xext h h34 → vp_in (x3 + 1) (ln h34 x0) ∧ tg h34 x2 = 13 ∧ 1 ≤ fr ∧ 15 ≤ lo ∧ xRi G YX12_end (fr - 1) (lo - 15) [rv x2, .int (aI h34 x0 (Int32.toNatClampNeg (x3 + 1)))] h34 (fun x43 h42 => xext h34 h42 → ((x35 = x43 → bL_law_328 G fr lo x0 x1 x2 x3 h42 Q) ∧ (¬ x35 = x43 → Q (.returned (some (.int 0))) h42))) (fun r h2 => Q (.threw r) h2)) (fun r h2 => Q (.threw r) h2)) ∧ (((aI h x0 (Int32.toNatClampNeg x3)) &&& 15) = 2 → tg h x1 = 1 ∧ 1 ≤ fr ∧ 14 ≤ lo ∧ xRi G YX0_program (fr - 1) (lo - 14) [rv x1] h (fun x51 h50 => xext h h50 → tg h50 x2 = 13 ∧ 1 ≤ fr ∧ 15 ≤ lo ∧ xRi G YX12_program (fr - 1) (lo - 15) [rv x2] h50 (fun x57 h56 => xext h50 h56 → ((x51 = x57 → bL_law_328 G fr lo x0 x1 x2 x3 h56 Q) ∧ (¬ x51 = x57 → Q (.returned (some (.int 0))) h56))) (fun r h2 => Q (.threw r) h2)) (fun r h2 => Q (.threw r) h2)) ∧ (((aI h x0 (Int32.toNatClampNeg x3)) &&& 15) = 3 → tg h x1 = 1 ∧ 1 ≤ fr ∧ 12 ≤ lo ∧ xRi G YX0_place (fr - 1) (lo - 12) [rv x1] h (fun x65 h64 => xext h h64 → tg h64 x2 = 13 ∧ 1 ≤ fr ∧ 13 ≤ lo ∧ xRi G YX12_place (fr - 1) (lo - 13) [rv x2] h64 (fun x71 h70 => xext h64 h70 → ((x65 = x71 → bL_law_328 G fr lo x0 x1 x2 x3 h70 Q) ∧ (¬ x65 = x71 → Q (.returned (some (.int 0))) h70))) (fun r h2 => Q (.threw r) h2)) (fun r h2 => Q (.threw r) h2)) ∧ (((aI h x0 (Int32.toNatClampNeg x3)) &&& 15) = 4 → vp_in (x3 + 1) (ln h x0) ∧ tg h x1 = 1 ∧ 1 ≤ fr ∧ 16 ≤ lo ∧ xRi G YX0_put (fr - 1) (lo - 16) [rv x1, .int (aI h x0 (Int32.toNatClampNeg (x3 + 1)))] h (fun x80 h79 => xext h h79 → vp_in (x3 + 1) (ln h79 x0) ∧ tg h79 x2 = 13 ∧ 1 ≤ fr ∧ 17 ≤ lo ∧ xRi G YX12_put (fr - 1) (lo - 17) [rv x2, .int (aI h79 x0 (Int32.toNatClampNeg (x3 + 1)))] h79 (fun x88 h87 => xext h79 h87 → ((x80 = x88 → bL_law_328 G fr lo x0 x1 x2 x3 h87 Q) ∧ (¬ x80 = x88 → Q (.returned (some (.int 0))) h87))) (fun r h2 => Q (.threw r) h2)) (fun r h2 => Q (.threw r) h2)) ∧ (((aI h x0 (Int32.toNatClampNeg x3)) &&& 15) = 5 → vp_in (x3 + 1) (ln h x0) ∧ tg h x1 = 1 ∧ 1 ≤ fr ∧ 14 ≤ lo ∧ xRi G YX0_run (fr - 1) (lo - 14) [rv x1, .int (aI h x0 (Int32.toNatClampNeg (x3 + 1)))] h (fun x97 h96 => xext h h96 → vp_in (x3 + 1) (ln h96 x0) ∧ tg h96 x2 = 13 ∧ 1 ≤ fr ∧ 17 ≤ lo ∧ xRi G YX12_run (fr - 1) (lo - 17) [rv x2, .int (aI h96 x0 (Int32.toNatClampNeg (x3 + 1)))] h96 (fun x105 h104 => xext h96 h104 → ((x97 = x105 → bL_law_328 G fr lo x0 x1 x2 x3 h104 Q) ∧ (¬ x97 = x105 → Q (.returned (some (.int 0))) h104))) (fun r h2 => Q (.threw r) h2)) (fun r h2 => Q (.threw r) h2)) ∧ (((aI h x0 (Int32.toNatClampNeg x3)) &&& 15) = 6 → tg h x1 = 1 ∧ 1 ≤ fr ∧ 12 ≤ lo ∧ xRi G YX0_where (fr - 1) (lo - 12) [rv x1] h (fun x113 h112 => xext h h112 → tg h112 x2 = 13 ∧ 1 ≤ fr ∧ 13 ≤ lo ∧ xRi G YX12_where (fr - 1) (lo - 13) [rv x2] h112 (fun x119 h118 => xext h112 h118 → ((x113 = x119 → bL_law_328 G fr lo x0 x1 x2 x3 h118 Q) ∧ (¬ x113 = x119 → Q (.returned (some (.int 0))) h118))) (fun r h2 => Q (.threw r) h2)) (fun r h2 => Q (.threw r) h2)) ∧ (((aI h x0 (Int32.toNatClampNeg x3)) &&& 15) = 7 → tg h x1 = 1 ∧ 1 ≤ fr ∧ 12 ≤ lo ∧ xRi G YX0_steps (fr - 1) (lo - 12) [rv x1] h (fun x127 h126 => xext h h126 → tg h126 x2 = 13 ∧ 1 ≤ fr ∧ 13 ≤ lo ∧ xRi G YX12_steps (fr - 1) (lo - 13) [rv x2] h126 (fun x133 h132 => xext h126 h132 → ((x127 = x133 → bL_law_328 G fr lo x0 x1 x2 x3 h132 Q) ∧ (¬ x127 = x133 → Q (.returned (some (.int 0))) h132))) (fun r h2 => Q (.threw r) h2)) (fun r h2 => Q (.threw r) h2)) ∧ (((aI h x0 (Int32.toNatClampNeg x3)) &&& 15) = 8 → vp_in (x3 + 1) (ln h x0) ∧ vp_in (x3 + 2) (ln h x0) ∧ tg h x1 = 1 ∧ 1 ≤ fr ∧ 14 ≤ lo ∧ xRi G YX0_file (fr - 1) (lo - 14) [rv x1, .int (aI h x0 (Int32.toNatClampNeg (x3 + 1))), .int (aI h x0 (Int32.toNatClampNeg (x3 + 2)))] h (fun x143 h142 => xext h h142 → vp_in (x3 + 1) (ln h142 x0) ∧ vp_in (x3 + 2) (ln h142 x0) ∧ tg h142 x2 = 13 ∧ 1 ≤ fr ∧ 18 ≤ lo ∧ xRi G YX12_file (fr - 1) (lo - 18) [rv x2, .int (aI h142 x0 (Int32.toNatClampNeg (x3 + 1))), .int (aI h142 x0 (Int32.toNatClampNeg (x3 + 2)))] h142 (fun x152 h151 => xext h142 h151 → ((x143 = x152 → bL_law_328 G fr lo x0 x1 x2 x3 h151 Q) ∧ (¬ x143 = x152 → Q (.returned (some (.int 0))) h151))) (fun r h2 => Q (.threw r) h2)) (fun r h2 => Q (.threw r) h2)) ∧ (((aI h x0 (Int32.toNatClampNeg x3)) &&& 15) = 9 → vp_in (x3 + 1) (ln h x0) ∧ tg h x1 = 1 ∧ 1 ≤ fr ∧ 13 ≤ lo ∧ xRi G YX0_about (fr - 1) (lo - 13) [rv x1, .int (aI h x0 (Int32.toNatClampNeg (x3 + 1)))] h (fun x161 h160 => xext h h160 → vp_in (x3 + 1) (ln h160 x0) ∧ tg h160 x2 = 13 ∧ 1 ≤ fr ∧ 14 ≤ lo ∧ xRi G YX12_about (fr - 1) (lo - 14) [rv x2, .int (aI h160 x0 (Int32.toNatClampNeg (x3 + 1)))] h160 (fun x169 h168 => xext h160 h168 → ((x161 = x169 → bL_law_328 G fr lo x0 x1 x2 x3 h168 Q) ∧ (¬ x161 = x169 → Q (.returned (some (.int 0))) h168))) (fun r h2 => Q (.threw r) h2)) (fun r h2 => Q (.threw r) h2)) ∧ (¬ ((aI h x0 (Int32.toNatClampNeg x3)) &&& 15) = 0 → ¬ ((aI h x0 (Int32.toNatClampNeg x3)) &&& 15) = 1 → ¬ ((aI h x0 (Int32.toNatClampNeg x3)) &&& 15) = 2 → ¬ ((aI h x0 (Int32.toNatClampNeg x3)) &&& 15) = 3 → ¬ ((aI h x0 (Int32.toNatClampNeg x3)) &&& 15) = 4 → ¬ ((aI h x0 (Int32.toNatClampNeg x3)) &&& 15) = 5 → ¬ ((aI h x0 (Int32.toNatClampNeg x3)) &&& 15) = 6 → ¬ ((aI h x0 (Int32.toNatClampNeg x3)) &&& 15) = 7 → ¬ ((aI h x0 (Int32.toNatClampNeg x3)) &&& 15) = 8 → ¬ ((aI h x0 (Int32.toNatClampNeg x3)) &&& 15) = 9 → bL_law_328 G fr lo x0 x1 x2 x3 h Q))))
set_option maxRecDepth 100000 in
theorem uL_law_18 {G : xG} {fr lo : Nat} {x0 : Nat} {x1 : Nat} {x2 : Nat} {x3 : Int32} {h : xH} {Q : Outcome → xH → Prop} (hq : bL_law_18 G fr lo x0 x1 x2 x3 h Q) : xP G YL_law fr lo 18 [(0, rv x0), (1, rv x1), (2, rv x2), (3, .int x3)] [] h Q := by
  unfold bL_law_18 at hq
  refine x_iload_n 3 dL_law_18 rfl ?_
  refine x_aload_n 0 dL_law_19 rfl ?_
  obtain ⟨g1, hq⟩ := hq
  refine x_alen 11 g1 (by decide) dL_law_20 ?_
  refine x_bipush (v := 6) dL_law_21 (by decide) ?_
  refine x_isub dL_law_23 ?_
  refine x_icmp_gt (tgt := 334) dL_law_24 (by decide) (fun c2 => ?_) (fun c2 => ?_)
  · replace hq := hq.1 c2
    refine x_iconst (v := 1) dL_law_334 (by decide) ?_
    exact x_iret rfl rfl dL_law_335 hq
  · replace hq := hq.2 c2
    refine x_aload_n 0 dL_law_27 rfl ?_
    refine x_iload_n 3 dL_law_28 rfl ?_
    obtain ⟨i3, hq⟩ := hq
    refine x_iald 11 (Or.inr rfl) g1 i3 dL_law_29 ?_
    refine x_bipush (v := 15) dL_law_30 (by decide) ?_
    refine x_iand dL_law_32 ?_
    by_cases c4 : ((aI h x0 (Int32.toNatClampNeg x3)) &&& 15) = 0
    · replace hq := hq.1 c4
      refine x_tin (tgt := 88) (off := 55) 0 c4 dL_law_33 (by decide) (by decide) (by decide) (by decide) ?_
      refine x_aload_n 1 dL_law_88 rfl ?_
      refine x_aload_n 0 dL_law_89 rfl ?_
      refine x_iload_n 3 dL_law_90 rfl ?_
      refine x_iconst (v := 1) dL_law_91 (by decide) ?_
      refine x_iadd dL_law_92 ?_
      obtain ⟨i5, hq⟩ := hq
      refine x_iald 11 (Or.inr rfl) g1 i5 dL_law_93 ?_
      refine x_aload_n 0 dL_law_94 rfl ?_
      refine x_iload_n 3 dL_law_95 rfl ?_
      refine x_iconst (v := 2) dL_law_96 (by decide) ?_
      refine x_iadd dL_law_97 ?_
      obtain ⟨i6, hq⟩ := hq
      refine x_iald 11 (Or.inr rfl) g1 i6 dL_law_98 ?_
      refine x_aload_n 0 dL_law_99 rfl ?_
      refine x_iload_n 3 dL_law_100 rfl ?_
      refine x_iconst (v := 3) dL_law_101 (by decide) ?_
      refine x_iadd dL_law_102 ?_
      obtain ⟨i7, hq⟩ := hq
      refine x_iald 11 (Or.inr rfl) g1 i7 dL_law_103 ?_
      refine x_aload_n 0 dL_law_104 rfl ?_
      refine x_iload_n 3 dL_law_105 rfl ?_
      refine x_iconst (v := 4) dL_law_106 (by decide) ?_
      refine x_iadd dL_law_107 ?_
      obtain ⟨i8, hq⟩ := hq
      refine x_iald 11 (Or.inr rfl) g1 i8 dL_law_108 ?_
      refine x_aload_n 0 dL_law_109 rfl ?_
      refine x_iload_n 3 dL_law_110 rfl ?_
      refine x_iconst (v := 5) dL_law_111 (by decide) ?_
      refine x_iadd dL_law_112 ?_
      obtain ⟨i9, hq⟩ := hq
      refine x_iald 11 (Or.inr rfl) g1 i9 dL_law_113 ?_
      obtain ⟨g10, hq⟩ := hq
      obtain ⟨g11, g12, hq⟩ := hq
      refine x_callV (Yc := YX0_feed) (as := [.int (aI h x0 (Int32.toNatClampNeg (x3 + 1))), .int (aI h x0 (Int32.toNatClampNeg (x3 + 2))), .int (aI h x0 (Int32.toNatClampNeg (x3 + 3))), .int (aI h x0 (Int32.toNatClampNeg (x3 + 4))), .int (aI h x0 (Int32.toNatClampNeg (x3 + 5)))]) (st := []) q1466 mvX0_feed g10 rfl dL_law_114 (xle (xal1 (rv_cat _) (xal1 rfl (xal1 rfl (xal1 rfl (xal1 rfl (xal1 rfl xal0)))))) (by decide)) (xfr g11) (xlo xsw0 (by decide) g12) (xKi hq (fun x14 h13 hq e15 => ?_) (fun _ _ q _ => q))
      replace hq := hq e15
      refine x_aload_n 2 dL_law_117 rfl ?_
      refine x_aload_n 0 dL_law_118 rfl ?_
      refine x_iload_n 3 dL_law_119 rfl ?_
      refine x_iconst (v := 1) dL_law_120 (by decide) ?_
      refine x_iadd dL_law_121 ?_
      have t16 : tg h13 x0 = 111 := e15.tg g1 (by decide)
      obtain ⟨i17, hq⟩ := hq
      refine x_iald 11 (Or.inr rfl) t16 i17 dL_law_122 ?_
      refine x_aload_n 0 dL_law_123 rfl ?_
      refine x_iload_n 3 dL_law_124 rfl ?_
      refine x_iconst (v := 2) dL_law_125 (by decide) ?_
      refine x_iadd dL_law_126 ?_
      obtain ⟨i18, hq⟩ := hq
      refine x_iald 11 (Or.inr rfl) t16 i18 dL_law_127 ?_
      refine x_aload_n 0 dL_law_128 rfl ?_
      refine x_iload_n 3 dL_law_129 rfl ?_
      refine x_iconst (v := 3) dL_law_130 (by decide) ?_
      refine x_iadd dL_law_131 ?_
      obtain ⟨i19, hq⟩ := hq
      refine x_iald 11 (Or.inr rfl) t16 i19 dL_law_132 ?_
      refine x_aload_n 0 dL_law_133 rfl ?_
      refine x_iload_n 3 dL_law_134 rfl ?_
      refine x_iconst (v := 4) dL_law_135 (by decide) ?_
      refine x_iadd dL_law_136 ?_
      obtain ⟨i20, hq⟩ := hq
      refine x_iald 11 (Or.inr rfl) t16 i20 dL_law_137 ?_
      refine x_aload_n 0 dL_law_138 rfl ?_
      refine x_iload_n 3 dL_law_139 rfl ?_
      refine x_iconst (v := 5) dL_law_140 (by decide) ?_
      refine x_iadd dL_law_141 ?_
      obtain ⟨i21, hq⟩ := hq
      refine x_iald 11 (Or.inr rfl) t16 i21 dL_law_142 ?_
      obtain ⟨g22, hq⟩ := hq
      obtain ⟨g23, g24, hq⟩ := hq
      refine x_callV (Yc := YX12_feed) (as := [.int (aI h13 x0 (Int32.toNatClampNeg (x3 + 1))), .int (aI h13 x0 (Int32.toNatClampNeg (x3 + 2))), .int (aI h13 x0 (Int32.toNatClampNeg (x3 + 3))), .int (aI h13 x0 (Int32.toNatClampNeg (x3 + 4))), .int (aI h13 x0 (Int32.toNatClampNeg (x3 + 5)))]) (st := [.int x14]) q3645 mvX12_feed g22 rfl dL_law_143 (xle (xal1 (rv_cat _) (xal1 rfl (xal1 rfl (xal1 rfl (xal1 rfl (xal1 rfl xal0)))))) (by decide)) (xfr g23) (xlo (xsw1 rfl xsw0) (by decide) g24) (xKi hq (fun x26 h25 hq e27 => ?_) (fun _ _ q _ => q))
      replace hq := hq e27
      refine x_icmp_eq (tgt := 328) dL_law_146 (by decide) (fun c28 => ?_) (fun c28 => ?_)
      · replace hq := hq.1 c28
        exact uL_law_328 hq
      · replace hq := hq.2 c28
        refine x_iconst (v := 0) dL_law_149 (by decide) ?_
        exact x_iret rfl rfl dL_law_150 hq
    replace hq := hq.2
    by_cases c29 : ((aI h x0 (Int32.toNatClampNeg x3)) &&& 15) = 1
    · replace hq := hq.1 c29
      refine x_tin (tgt := 151) (off := 118) 1 c29 dL_law_33 (by decide) (by decide) (by decide) (by decide) ?_
      refine x_aload_n 1 dL_law_151 rfl ?_
      refine x_aload_n 0 dL_law_152 rfl ?_
      refine x_iload_n 3 dL_law_153 rfl ?_
      refine x_iconst (v := 1) dL_law_154 (by decide) ?_
      refine x_iadd dL_law_155 ?_
      obtain ⟨i30, hq⟩ := hq
      refine x_iald 11 (Or.inr rfl) g1 i30 dL_law_156 ?_
      obtain ⟨g31, hq⟩ := hq
      obtain ⟨g32, g33, hq⟩ := hq
      refine x_callV (Yc := YX0_end) (as := [.int (aI h x0 (Int32.toNatClampNeg (x3 + 1)))]) (st := []) q1474 mvX0_end g31 rfl dL_law_157 (xle (xal1 (rv_cat _) (xal1 rfl xal0)) (by decide)) (xfr g32) (xlo xsw0 (by decide) g33) (xKi hq (fun x35 h34 hq e36 => ?_) (fun _ _ q _ => q))
      replace hq := hq e36
      refine x_aload_n 2 dL_law_160 rfl ?_
      refine x_aload_n 0 dL_law_161 rfl ?_
      refine x_iload_n 3 dL_law_162 rfl ?_
      refine x_iconst (v := 1) dL_law_163 (by decide) ?_
      refine x_iadd dL_law_164 ?_
      have t37 : tg h34 x0 = 111 := e36.tg g1 (by decide)
      obtain ⟨i38, hq⟩ := hq
      refine x_iald 11 (Or.inr rfl) t37 i38 dL_law_165 ?_
      obtain ⟨g39, hq⟩ := hq
      obtain ⟨g40, g41, hq⟩ := hq
      refine x_callV (Yc := YX12_end) (as := [.int (aI h34 x0 (Int32.toNatClampNeg (x3 + 1)))]) (st := [.int x35]) q3649 mvX12_end g39 rfl dL_law_166 (xle (xal1 (rv_cat _) (xal1 rfl xal0)) (by decide)) (xfr g40) (xlo (xsw1 rfl xsw0) (by decide) g41) (xKi hq (fun x43 h42 hq e44 => ?_) (fun _ _ q _ => q))
      replace hq := hq e44
      refine x_icmp_eq (tgt := 328) dL_law_169 (by decide) (fun c45 => ?_) (fun c45 => ?_)
      · replace hq := hq.1 c45
        exact uL_law_328 hq
      · replace hq := hq.2 c45
        refine x_iconst (v := 0) dL_law_172 (by decide) ?_
        exact x_iret rfl rfl dL_law_173 hq
    replace hq := hq.2
    by_cases c46 : ((aI h x0 (Int32.toNatClampNeg x3)) &&& 15) = 2
    · replace hq := hq.1 c46
      refine x_tin (tgt := 174) (off := 141) 2 c46 dL_law_33 (by decide) (by decide) (by decide) (by decide) ?_
      refine x_aload_n 1 dL_law_174 rfl ?_
      obtain ⟨g47, hq⟩ := hq
      obtain ⟨g48, g49, hq⟩ := hq
      refine x_callV (Yc := YX0_program) (as := []) (st := []) q1478 mvX0_program g47 rfl dL_law_175 (xle (xal1 (rv_cat _) xal0) (by decide)) (xfr g48) (xlo xsw0 (by decide) g49) (xKi hq (fun x51 h50 hq e52 => ?_) (fun _ _ q _ => q))
      replace hq := hq e52
      refine x_aload_n 2 dL_law_178 rfl ?_
      obtain ⟨g53, hq⟩ := hq
      obtain ⟨g54, g55, hq⟩ := hq
      refine x_callV (Yc := YX12_program) (as := []) (st := [.int x51]) q3657 mvX12_program g53 rfl dL_law_179 (xle (xal1 (rv_cat _) xal0) (by decide)) (xfr g54) (xlo (xsw1 rfl xsw0) (by decide) g55) (xKi hq (fun x57 h56 hq e58 => ?_) (fun _ _ q _ => q))
      replace hq := hq e58
      refine x_icmp_eq (tgt := 328) dL_law_182 (by decide) (fun c59 => ?_) (fun c59 => ?_)
      · replace hq := hq.1 c59
        exact uL_law_328 hq
      · replace hq := hq.2 c59
        refine x_iconst (v := 0) dL_law_185 (by decide) ?_
        exact x_iret rfl rfl dL_law_186 hq
    replace hq := hq.2
    by_cases c60 : ((aI h x0 (Int32.toNatClampNeg x3)) &&& 15) = 3
    · replace hq := hq.1 c60
      refine x_tin (tgt := 187) (off := 154) 3 c60 dL_law_33 (by decide) (by decide) (by decide) (by decide) ?_
      refine x_aload_n 1 dL_law_187 rfl ?_
      obtain ⟨g61, hq⟩ := hq
      obtain ⟨g62, g63, hq⟩ := hq
      refine x_callV (Yc := YX0_place) (as := []) (st := []) q2808 mvX0_place g61 rfl dL_law_188 (xle (xal1 (rv_cat _) xal0) (by decide)) (xfr g62) (xlo xsw0 (by decide) g63) (xKi hq (fun x65 h64 hq e66 => ?_) (fun _ _ q _ => q))
      replace hq := hq e66
      refine x_aload_n 2 dL_law_191 rfl ?_
      obtain ⟨g67, hq⟩ := hq
      obtain ⟨g68, g69, hq⟩ := hq
      refine x_callV (Yc := YX12_place) (as := []) (st := [.int x65]) q4480 mvX12_place g67 rfl dL_law_192 (xle (xal1 (rv_cat _) xal0) (by decide)) (xfr g68) (xlo (xsw1 rfl xsw0) (by decide) g69) (xKi hq (fun x71 h70 hq e72 => ?_) (fun _ _ q _ => q))
      replace hq := hq e72
      refine x_icmp_eq (tgt := 328) dL_law_195 (by decide) (fun c73 => ?_) (fun c73 => ?_)
      · replace hq := hq.1 c73
        exact uL_law_328 hq
      · replace hq := hq.2 c73
        refine x_iconst (v := 0) dL_law_198 (by decide) ?_
        exact x_iret rfl rfl dL_law_199 hq
    replace hq := hq.2
    by_cases c74 : ((aI h x0 (Int32.toNatClampNeg x3)) &&& 15) = 4
    · replace hq := hq.1 c74
      refine x_tin (tgt := 200) (off := 167) 4 c74 dL_law_33 (by decide) (by decide) (by decide) (by decide) ?_
      refine x_aload_n 1 dL_law_200 rfl ?_
      refine x_aload_n 0 dL_law_201 rfl ?_
      refine x_iload_n 3 dL_law_202 rfl ?_
      refine x_iconst (v := 1) dL_law_203 (by decide) ?_
      refine x_iadd dL_law_204 ?_
      obtain ⟨i75, hq⟩ := hq
      refine x_iald 11 (Or.inr rfl) g1 i75 dL_law_205 ?_
      obtain ⟨g76, hq⟩ := hq
      obtain ⟨g77, g78, hq⟩ := hq
      refine x_callV (Yc := YX0_put) (as := [.int (aI h x0 (Int32.toNatClampNeg (x3 + 1)))]) (st := []) q2812 mvX0_put g76 rfl dL_law_206 (xle (xal1 (rv_cat _) (xal1 rfl xal0)) (by decide)) (xfr g77) (xlo xsw0 (by decide) g78) (xKi hq (fun x80 h79 hq e81 => ?_) (fun _ _ q _ => q))
      replace hq := hq e81
      refine x_aload_n 2 dL_law_209 rfl ?_
      refine x_aload_n 0 dL_law_210 rfl ?_
      refine x_iload_n 3 dL_law_211 rfl ?_
      refine x_iconst (v := 1) dL_law_212 (by decide) ?_
      refine x_iadd dL_law_213 ?_
      have t82 : tg h79 x0 = 111 := e81.tg g1 (by decide)
      obtain ⟨i83, hq⟩ := hq
      refine x_iald 11 (Or.inr rfl) t82 i83 dL_law_214 ?_
      obtain ⟨g84, hq⟩ := hq
      obtain ⟨g85, g86, hq⟩ := hq
      refine x_callV (Yc := YX12_put) (as := [.int (aI h79 x0 (Int32.toNatClampNeg (x3 + 1)))]) (st := [.int x80]) q3653 mvX12_put g84 rfl dL_law_215 (xle (xal1 (rv_cat _) (xal1 rfl xal0)) (by decide)) (xfr g85) (xlo (xsw1 rfl xsw0) (by decide) g86) (xKi hq (fun x88 h87 hq e89 => ?_) (fun _ _ q _ => q))
      replace hq := hq e89
      refine x_icmp_eq (tgt := 328) dL_law_218 (by decide) (fun c90 => ?_) (fun c90 => ?_)
      · replace hq := hq.1 c90
        exact uL_law_328 hq
      · replace hq := hq.2 c90
        refine x_iconst (v := 0) dL_law_221 (by decide) ?_
        exact x_iret rfl rfl dL_law_222 hq
    replace hq := hq.2
    by_cases c91 : ((aI h x0 (Int32.toNatClampNeg x3)) &&& 15) = 5
    · replace hq := hq.1 c91
      refine x_tin (tgt := 223) (off := 190) 5 c91 dL_law_33 (by decide) (by decide) (by decide) (by decide) ?_
      refine x_aload_n 1 dL_law_223 rfl ?_
      refine x_aload_n 0 dL_law_224 rfl ?_
      refine x_iload_n 3 dL_law_225 rfl ?_
      refine x_iconst (v := 1) dL_law_226 (by decide) ?_
      refine x_iadd dL_law_227 ?_
      obtain ⟨i92, hq⟩ := hq
      refine x_iald 11 (Or.inr rfl) g1 i92 dL_law_228 ?_
      obtain ⟨g93, hq⟩ := hq
      obtain ⟨g94, g95, hq⟩ := hq
      refine x_callV (Yc := YX0_run) (as := [.int (aI h x0 (Int32.toNatClampNeg (x3 + 1)))]) (st := []) q2816 mvX0_run g93 rfl dL_law_229 (xle (xal1 (rv_cat _) (xal1 rfl xal0)) (by decide)) (xfr g94) (xlo xsw0 (by decide) g95) (xKi hq (fun x97 h96 hq e98 => ?_) (fun _ _ q _ => q))
      replace hq := hq e98
      refine x_aload_n 2 dL_law_232 rfl ?_
      refine x_aload_n 0 dL_law_233 rfl ?_
      refine x_iload_n 3 dL_law_234 rfl ?_
      refine x_iconst (v := 1) dL_law_235 (by decide) ?_
      refine x_iadd dL_law_236 ?_
      have t99 : tg h96 x0 = 111 := e98.tg g1 (by decide)
      obtain ⟨i100, hq⟩ := hq
      refine x_iald 11 (Or.inr rfl) t99 i100 dL_law_237 ?_
      obtain ⟨g101, hq⟩ := hq
      obtain ⟨g102, g103, hq⟩ := hq
      refine x_callV (Yc := YX12_run) (as := [.int (aI h96 x0 (Int32.toNatClampNeg (x3 + 1)))]) (st := [.int x97]) q4484 mvX12_run g101 rfl dL_law_238 (xle (xal1 (rv_cat _) (xal1 rfl xal0)) (by decide)) (xfr g102) (xlo (xsw1 rfl xsw0) (by decide) g103) (xKi hq (fun x105 h104 hq e106 => ?_) (fun _ _ q _ => q))
      replace hq := hq e106
      refine x_icmp_eq (tgt := 328) dL_law_241 (by decide) (fun c107 => ?_) (fun c107 => ?_)
      · replace hq := hq.1 c107
        exact uL_law_328 hq
      · replace hq := hq.2 c107
        refine x_iconst (v := 0) dL_law_244 (by decide) ?_
        exact x_iret rfl rfl dL_law_245 hq
    replace hq := hq.2
    by_cases c108 : ((aI h x0 (Int32.toNatClampNeg x3)) &&& 15) = 6
    · replace hq := hq.1 c108
      refine x_tin (tgt := 246) (off := 213) 6 c108 dL_law_33 (by decide) (by decide) (by decide) (by decide) ?_
      refine x_aload_n 1 dL_law_246 rfl ?_
      obtain ⟨g109, hq⟩ := hq
      obtain ⟨g110, g111, hq⟩ := hq
      refine x_callV (Yc := YX0_where) (as := []) (st := []) q3181 mvX0_where g109 rfl dL_law_247 (xle (xal1 (rv_cat _) xal0) (by decide)) (xfr g110) (xlo xsw0 (by decide) g111) (xKi hq (fun x113 h112 hq e114 => ?_) (fun _ _ q _ => q))
      replace hq := hq e114
      refine x_aload_n 2 dL_law_250 rfl ?_
      obtain ⟨g115, hq⟩ := hq
      obtain ⟨g116, g117, hq⟩ := hq
      refine x_callV (Yc := YX12_where) (as := []) (st := [.int x113]) q4811 mvX12_where g115 rfl dL_law_251 (xle (xal1 (rv_cat _) xal0) (by decide)) (xfr g116) (xlo (xsw1 rfl xsw0) (by decide) g117) (xKi hq (fun x119 h118 hq e120 => ?_) (fun _ _ q _ => q))
      replace hq := hq e120
      refine x_icmp_eq (tgt := 328) dL_law_254 (by decide) (fun c121 => ?_) (fun c121 => ?_)
      · replace hq := hq.1 c121
        exact uL_law_328 hq
      · replace hq := hq.2 c121
        refine x_iconst (v := 0) dL_law_257 (by decide) ?_
        exact x_iret rfl rfl dL_law_258 hq
    replace hq := hq.2
    by_cases c122 : ((aI h x0 (Int32.toNatClampNeg x3)) &&& 15) = 7
    · replace hq := hq.1 c122
      refine x_tin (tgt := 259) (off := 226) 7 c122 dL_law_33 (by decide) (by decide) (by decide) (by decide) ?_
      refine x_aload_n 1 dL_law_259 rfl ?_
      obtain ⟨g123, hq⟩ := hq
      obtain ⟨g124, g125, hq⟩ := hq
      refine x_callV (Yc := YX0_steps) (as := []) (st := []) q3185 mvX0_steps g123 rfl dL_law_260 (xle (xal1 (rv_cat _) xal0) (by decide)) (xfr g124) (xlo xsw0 (by decide) g125) (xKi hq (fun x127 h126 hq e128 => ?_) (fun _ _ q _ => q))
      replace hq := hq e128
      refine x_aload_n 2 dL_law_263 rfl ?_
      obtain ⟨g129, hq⟩ := hq
      obtain ⟨g130, g131, hq⟩ := hq
      refine x_callV (Yc := YX12_steps) (as := []) (st := [.int x127]) q4815 mvX12_steps g129 rfl dL_law_264 (xle (xal1 (rv_cat _) xal0) (by decide)) (xfr g130) (xlo (xsw1 rfl xsw0) (by decide) g131) (xKi hq (fun x133 h132 hq e134 => ?_) (fun _ _ q _ => q))
      replace hq := hq e134
      refine x_icmp_eq (tgt := 328) dL_law_267 (by decide) (fun c135 => ?_) (fun c135 => ?_)
      · replace hq := hq.1 c135
        exact uL_law_328 hq
      · replace hq := hq.2 c135
        refine x_iconst (v := 0) dL_law_270 (by decide) ?_
        exact x_iret rfl rfl dL_law_271 hq
    replace hq := hq.2
    by_cases c136 : ((aI h x0 (Int32.toNatClampNeg x3)) &&& 15) = 8
    · replace hq := hq.1 c136
      refine x_tin (tgt := 272) (off := 239) 8 c136 dL_law_33 (by decide) (by decide) (by decide) (by decide) ?_
      refine x_aload_n 1 dL_law_272 rfl ?_
      refine x_aload_n 0 dL_law_273 rfl ?_
      refine x_iload_n 3 dL_law_274 rfl ?_
      refine x_iconst (v := 1) dL_law_275 (by decide) ?_
      refine x_iadd dL_law_276 ?_
      obtain ⟨i137, hq⟩ := hq
      refine x_iald 11 (Or.inr rfl) g1 i137 dL_law_277 ?_
      refine x_aload_n 0 dL_law_278 rfl ?_
      refine x_iload_n 3 dL_law_279 rfl ?_
      refine x_iconst (v := 2) dL_law_280 (by decide) ?_
      refine x_iadd dL_law_281 ?_
      obtain ⟨i138, hq⟩ := hq
      refine x_iald 11 (Or.inr rfl) g1 i138 dL_law_282 ?_
      obtain ⟨g139, hq⟩ := hq
      obtain ⟨g140, g141, hq⟩ := hq
      refine x_callV (Yc := YX0_file) (as := [.int (aI h x0 (Int32.toNatClampNeg (x3 + 1))), .int (aI h x0 (Int32.toNatClampNeg (x3 + 2)))]) (st := []) q3189 mvX0_file g139 rfl dL_law_283 (xle (xal1 (rv_cat _) (xal1 rfl (xal1 rfl xal0))) (by decide)) (xfr g140) (xlo xsw0 (by decide) g141) (xKi hq (fun x143 h142 hq e144 => ?_) (fun _ _ q _ => q))
      replace hq := hq e144
      refine x_aload_n 2 dL_law_286 rfl ?_
      refine x_aload_n 0 dL_law_287 rfl ?_
      refine x_iload_n 3 dL_law_288 rfl ?_
      refine x_iconst (v := 1) dL_law_289 (by decide) ?_
      refine x_iadd dL_law_290 ?_
      have t145 : tg h142 x0 = 111 := e144.tg g1 (by decide)
      obtain ⟨i146, hq⟩ := hq
      refine x_iald 11 (Or.inr rfl) t145 i146 dL_law_291 ?_
      refine x_aload_n 0 dL_law_292 rfl ?_
      refine x_iload_n 3 dL_law_293 rfl ?_
      refine x_iconst (v := 2) dL_law_294 (by decide) ?_
      refine x_iadd dL_law_295 ?_
      obtain ⟨i147, hq⟩ := hq
      refine x_iald 11 (Or.inr rfl) t145 i147 dL_law_296 ?_
      obtain ⟨g148, hq⟩ := hq
      obtain ⟨g149, g150, hq⟩ := hq
      refine x_callV (Yc := YX12_file) (as := [.int (aI h142 x0 (Int32.toNatClampNeg (x3 + 1))), .int (aI h142 x0 (Int32.toNatClampNeg (x3 + 2)))]) (st := [.int x143]) q4819 mvX12_file g148 rfl dL_law_297 (xle (xal1 (rv_cat _) (xal1 rfl (xal1 rfl xal0))) (by decide)) (xfr g149) (xlo (xsw1 rfl xsw0) (by decide) g150) (xKi hq (fun x152 h151 hq e153 => ?_) (fun _ _ q _ => q))
      replace hq := hq e153
      refine x_icmp_eq (tgt := 328) dL_law_300 (by decide) (fun c154 => ?_) (fun c154 => ?_)
      · replace hq := hq.1 c154
        exact uL_law_328 hq
      · replace hq := hq.2 c154
        refine x_iconst (v := 0) dL_law_303 (by decide) ?_
        exact x_iret rfl rfl dL_law_304 hq
    replace hq := hq.2
    by_cases c155 : ((aI h x0 (Int32.toNatClampNeg x3)) &&& 15) = 9
    · replace hq := hq.1 c155
      refine x_tin (tgt := 305) (off := 272) 9 c155 dL_law_33 (by decide) (by decide) (by decide) (by decide) ?_
      refine x_aload_n 1 dL_law_305 rfl ?_
      refine x_aload_n 0 dL_law_306 rfl ?_
      refine x_iload_n 3 dL_law_307 rfl ?_
      refine x_iconst (v := 1) dL_law_308 (by decide) ?_
      refine x_iadd dL_law_309 ?_
      obtain ⟨i156, hq⟩ := hq
      refine x_iald 11 (Or.inr rfl) g1 i156 dL_law_310 ?_
      obtain ⟨g157, hq⟩ := hq
      obtain ⟨g158, g159, hq⟩ := hq
      refine x_callV (Yc := YX0_about) (as := [.int (aI h x0 (Int32.toNatClampNeg (x3 + 1)))]) (st := []) q3193 mvX0_about g157 rfl dL_law_311 (xle (xal1 (rv_cat _) (xal1 rfl xal0)) (by decide)) (xfr g158) (xlo xsw0 (by decide) g159) (xKi hq (fun x161 h160 hq e162 => ?_) (fun _ _ q _ => q))
      replace hq := hq e162
      refine x_aload_n 2 dL_law_314 rfl ?_
      refine x_aload_n 0 dL_law_315 rfl ?_
      refine x_iload_n 3 dL_law_316 rfl ?_
      refine x_iconst (v := 1) dL_law_317 (by decide) ?_
      refine x_iadd dL_law_318 ?_
      have t163 : tg h160 x0 = 111 := e162.tg g1 (by decide)
      obtain ⟨i164, hq⟩ := hq
      refine x_iald 11 (Or.inr rfl) t163 i164 dL_law_319 ?_
      obtain ⟨g165, hq⟩ := hq
      obtain ⟨g166, g167, hq⟩ := hq
      refine x_callV (Yc := YX12_about) (as := [.int (aI h160 x0 (Int32.toNatClampNeg (x3 + 1)))]) (st := [.int x161]) q4823 mvX12_about g165 rfl dL_law_320 (xle (xal1 (rv_cat _) (xal1 rfl xal0)) (by decide)) (xfr g166) (xlo (xsw1 rfl xsw0) (by decide) g167) (xKi hq (fun x169 h168 hq e170 => ?_) (fun _ _ q _ => q))
      replace hq := hq e170
      refine x_icmp_eq (tgt := 328) dL_law_323 (by decide) (fun c171 => ?_) (fun c171 => ?_)
      · replace hq := hq.1 c171
        exact uL_law_328 hq
      · replace hq := hq.2 c171
        refine x_iconst (v := 0) dL_law_326 (by decide) ?_
        exact x_iret rfl rfl dL_law_327 hq
    replace hq := hq.2
    replace hq := hq c4 c29 c46 c60 c74 c91 c108 c122 c136 c155
    have nc4 := lv_neT c4 (show (0 : Int32).toInt = 0 from by decide)
    have nc29 := lv_neT c29 (show (1 : Int32).toInt = 1 from by decide)
    have nc46 := lv_neT c46 (show (2 : Int32).toInt = 2 from by decide)
    have nc60 := lv_neT c60 (show (3 : Int32).toInt = 3 from by decide)
    have nc74 := lv_neT c74 (show (4 : Int32).toInt = 4 from by decide)
    have nc91 := lv_neT c91 (show (5 : Int32).toInt = 5 from by decide)
    have nc108 := lv_neT c108 (show (6 : Int32).toInt = 6 from by decide)
    have nc122 := lv_neT c122 (show (7 : Int32).toInt = 7 from by decide)
    have nc136 := lv_neT c136 (show (8 : Int32).toInt = 8 from by decide)
    have nc155 := lv_neT c155 (show (9 : Int32).toInt = 9 from by decide)
    refine x_tout (tgt := 328) dL_law_33 (by omega) (by decide) ?_
    exact uL_law_328 hq
set_option maxRecDepth 100000 in
def bL_law (G : xG) (fr lo : Nat) (x0 : Nat) (h : xH) (Q : Outcome → xH → Prop) : Prop := nx h + 1 ≤ xGN G ∧ us h + 21 ≤ xGU G ∧ (∀ (a3 : Nat) (h4 : xH), a3 = nx h + 1 → h4 = nO h 1 21 → xfresh h a3 → 1 ≤ fr ∧ 13 ≤ lo ∧ xRv G YX0_init (fr - 1) (lo - 13) [rv a3] h4 (fun h11 => xext h4 h11 → nx h11 + 1 ≤ xGN G ∧ us h11 + 131 ≤ xGU G ∧ (∀ (a16 : Nat) (h17 : xH), a16 = nx h11 + 1 → h17 = nO h11 13 131 → xfresh h11 a16 → 1 ≤ fr ∧ 13 ≤ lo ∧ xRv G YX12_init (fr - 1) (lo - 13) [rv a16] h17 (fun h24 => xext h17 h24 → lL_law_18 G fr lo x0 a3 a16 0 h24 Q) (fun r h2 => Q (.threw r) h2))) (fun r h2 => Q (.threw r) h2))
set_option maxRecDepth 100000 in
theorem uL_law {G : xG} {fr lo : Nat} {x0 : Nat} {h : xH} {Q : Outcome → xH → Prop} (hq : bL_law G fr lo x0 h Q) : xP G YL_law fr lo 0 [(0, rv x0)] [] h Q := by
  unfold bL_law at hq
  obtain ⟨g1, g2, hq⟩ := hq
  obtain ⟨a3, e5⟩ : ∃ y, y = nx h + 1 := ⟨_, rfl⟩
  obtain ⟨h4, e6⟩ : ∃ y, y = nO h 1 21 := ⟨_, rfl⟩
  refine x_new' cdL_7 dL_law_0 g1 g2 e5 e6 (fun f7 => ?_)
  replace hq := hq a3 h4 e5 e6 f7
  have t8 : tg h4 a3 = 1 := by rw [e6, e5]; exact tg_nO
  refine x_dup dL_law_3 (rv_cat _) ?_
  obtain ⟨g9, g10, hq⟩ := hq
  refine x_callI (Yc := YX0_init) (as := []) (st := [rv a3]) q434 miX0_init (by rw [t8]; decide) rfl dL_law_4 (xle (xal1 (rv_cat _) xal0) (by decide)) (xfr g9) (xlo (xsw1 (rv_cat _) xsw0) (by decide) g10) (xKv hq (fun h11 hq e13 => ?_) (fun _ _ q _ => q))
  replace hq := hq e13
  refine x_astore_n (lv' := [(1, rv a3), (0, rv x0)]) dL_law_7 (by decide) (by first | rfl | (simp [rv_cat, Value.category]; done) | (simp [rv_cat, Value.category]; decide)) ?_
  obtain ⟨g14, g15, hq⟩ := hq
  obtain ⟨a16, e18⟩ : ∃ y, y = nx h11 + 1 := ⟨_, rfl⟩
  obtain ⟨h17, e19⟩ : ∃ y, y = nO h11 13 131 := ⟨_, rfl⟩
  refine x_new' cdL_10 dL_law_8 g14 g15 e18 e19 (fun f20 => ?_)
  replace hq := hq a16 h17 e18 e19 f20
  have t21 : tg h17 a16 = 13 := by rw [e19, e18]; exact tg_nO
  refine x_dup dL_law_11 (rv_cat _) ?_
  obtain ⟨g22, g23, hq⟩ := hq
  refine x_callI (Yc := YX12_init) (as := []) (st := [rv a16]) q3200 miX12_init (by rw [t21]; decide) rfl dL_law_12 (xle (xal1 (rv_cat _) xal0) (by decide)) (xfr g22) (xlo (xsw1 (rv_cat _) xsw0) (by decide) g23) (xKv hq (fun h24 hq e26 => ?_) (fun _ _ q _ => q))
  replace hq := hq e26
  refine x_astore_n (lv' := [(2, rv a16), (1, rv a3), (0, rv x0)]) dL_law_15 (by decide) (by first | rfl | (simp [rv_cat, Value.category]; done) | (simp [rv_cat, Value.category]; decide)) ?_
  refine x_iconst (v := 0) dL_law_16 (by decide) ?_
  refine x_istore_n (lv' := [(3, .int 0), (2, rv a16), (1, rv a3), (0, rv x0)]) dL_law_17 (by decide) (by first | rfl | (simp [rv_cat, Value.category]; done) | (simp [rv_cat, Value.category]; decide)) ?_
  refine xP.pick (lv' := [(0, rv x0), (1, rv a3), (2, rv a16), (3, .int 0)]) [3, 2, 1, 0] rfl ?_
  exact hq
theorem rL_law {G : xG} {fr lo : Nat} {x0 : Nat} {h : xH} {Q : Outcome → xH → Prop} (hq : bL_law G fr lo x0 h Q) : xR G YL_law fr lo [rv x0] h Q := by
  show xP _ _ _ _ _ (lv_args 0 _) _ _ _
  rw [show lv_args 0 [rv x0] = [(0, rv x0)] from (xla1 (rv_cat _) xla0)]
  exact uL_law hq
