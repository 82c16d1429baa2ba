/-! PascalHouse, walked (1) -/
set_option maxRecDepth 100000 in
theorem dX0_init_0 : decode cX0_init 0 = .ok (.aload_n 0, 1) := by decide +kernel
set_option maxRecDepth 100000 in
theorem dX0_init_1 : decode cX0_init 1 = .ok (.invokespecial 13, 3) := by decide +kernel
set_option maxRecDepth 100000 in
theorem dX0_init_4 : decode cX0_init 4 = .ok (.aload_n 0, 1) := by decide +kernel
set_option maxRecDepth 100000 in
theorem dX0_init_5 : decode cX0_init 5 = .ok (.bipush 35, 2) := by decide +kernel
set_option maxRecDepth 100000 in
theorem dX0_init_7 : decode cX0_init 7 = .ok (.anewarray 19, 3) := by decide +kernel
set_option maxRecDepth 100000 in
theorem dX0_init_10 : decode cX0_init 10 = .ok (.dup, 1) := by decide +kernel
set_option maxRecDepth 100000 in
theorem dX0_init_11 : decode cX0_init 11 = .ok (.iconst 0, 1) := by decide +kernel
set_option maxRecDepth 100000 in
theorem dX0_init_12 : decode cX0_init 12 = .ok (.ldc 21, 2) := by decide +kernel
set_option maxRecDepth 100000 in
theorem dX0_init_14 : decode cX0_init 14 = .ok (.aastore, 1) := by decide +kernel
set_option maxRecDepth 100000 in
theorem dX0_init_15 : decode cX0_init 15 = .ok (.dup, 1) := by decide +kernel
set_option maxRecDepth 100000 in
theorem dX0_init_16 : decode cX0_init 16 = .ok (.iconst 1, 1) := by decide +kernel
set_option maxRecDepth 100000 in
theorem dX0_init_17 : decode cX0_init 17 = .ok (.ldc 23, 2) := by decide +kernel
set_option maxRecDepth 100000 in
theorem dX0_init_19 : decode cX0_init 19 = .ok (.aastore, 1) := by decide +kernel
set_option maxRecDepth 100000 in
theorem dX0_init_20 : decode cX0_init 20 = .ok (.dup, 1) := by decide +kernel
set_option maxRecDepth 100000 in
theorem dX0_init_21 : decode cX0_init 21 = .ok (.iconst 2, 1) := by decide +kernel
set_option maxRecDepth 100000 in
theorem dX0_init_22 : decode cX0_init 22 = .ok (.ldc 25, 2) := by decide +kernel
set_option maxRecDepth 100000 in
theorem dX0_init_24 : decode cX0_init 24 = .ok (.aastore, 1) := by decide +kernel
set_option maxRecDepth 100000 in
theorem dX0_init_25 : decode cX0_init 25 = .ok (.dup, 1) := by decide +kernel
set_option maxRecDepth 100000 in
theorem dX0_init_26 : decode cX0_init 26 = .ok (.iconst 3, 1) := by decide +kernel
set_option maxRecDepth 100000 in
theorem dX0_init_27 : decode cX0_init 27 = .ok (.ldc 27, 2) := by decide +kernel
set_option maxRecDepth 100000 in
theorem dX0_init_29 : decode cX0_init 29 = .ok (.aastore, 1) := by decide +kernel
set_option maxRecDepth 100000 in
theorem dX0_init_30 : decode cX0_init 30 = .ok (.dup, 1) := by decide +kernel
set_option maxRecDepth 100000 in
theorem dX0_init_31 : decode cX0_init 31 = .ok (.iconst 4, 1) := by decide +kernel
set_option maxRecDepth 100000 in
theorem dX0_init_32 : decode cX0_init 32 = .ok (.ldc 29, 2) := by decide +kernel
set_option maxRecDepth 100000 in
theorem dX0_init_34 : decode cX0_init 34 = .ok (.aastore, 1) := by decide +kernel
set_option maxRecDepth 100000 in
theorem dX0_init_35 : decode cX0_init 35 = .ok (.dup, 1) := by decide +kernel
set_option maxRecDepth 100000 in
theorem dX0_init_36 : decode cX0_init 36 = .ok (.iconst 5, 1) := by decide +kernel
set_option maxRecDepth 100000 in
theorem dX0_init_37 : decode cX0_init 37 = .ok (.ldc 31, 2) := by decide +kernel
set_option maxRecDepth 100000 in
theorem dX0_init_39 : decode cX0_init 39 = .ok (.aastore, 1) := by decide +kernel
set_option maxRecDepth 100000 in
theorem dX0_init_40 : decode cX0_init 40 = .ok (.dup, 1) := by decide +kernel
set_option maxRecDepth 100000 in
theorem dX0_init_41 : decode cX0_init 41 = .ok (.bipush 6, 2) := by decide +kernel
set_option maxRecDepth 100000 in
theorem dX0_init_43 : decode cX0_init 43 = .ok (.ldc 33, 2) := by decide +kernel
set_option maxRecDepth 100000 in
theorem dX0_init_45 : decode cX0_init 45 = .ok (.aastore, 1) := by decide +kernel
set_option maxRecDepth 100000 in
theorem dX0_init_46 : decode cX0_init 46 = .ok (.dup, 1) := by decide +kernel
set_option maxRecDepth 100000 in
theorem dX0_init_47 : decode cX0_init 47 = .ok (.bipush 7, 2) := by decide +kernel
set_option maxRecDepth 100000 in
theorem dX0_init_49 : decode cX0_init 49 = .ok (.ldc 35, 2) := by decide +kernel
set_option maxRecDepth 100000 in
theorem dX0_init_51 : decode cX0_init 51 = .ok (.aastore, 1) := by decide +kernel
set_option maxRecDepth 100000 in
theorem dX0_init_52 : decode cX0_init 52 = .ok (.dup, 1) := by decide +kernel
set_option maxRecDepth 100000 in
theorem dX0_init_53 : decode cX0_init 53 = .ok (.bipush 8, 2) := by decide +kernel
set_option maxRecDepth 100000 in
theorem dX0_init_55 : decode cX0_init 55 = .ok (.ldc 37, 2) := by decide +kernel
set_option maxRecDepth 100000 in
theorem dX0_init_57 : decode cX0_init 57 = .ok (.aastore, 1) := by decide +kernel
set_option maxRecDepth 100000 in
theorem dX0_init_58 : decode cX0_init 58 = .ok (.dup, 1) := by decide +kernel
set_option maxRecDepth 100000 in
theorem dX0_init_59 : decode cX0_init 59 = .ok (.bipush 9, 2) := by decide +kernel
set_option maxRecDepth 100000 in
theorem dX0_init_61 : decode cX0_init 61 = .ok (.ldc 39, 2) := by decide +kernel
set_option maxRecDepth 100000 in
theorem dX0_init_63 : decode cX0_init 63 = .ok (.aastore, 1) := by decide +kernel
set_option maxRecDepth 100000 in
theorem dX0_init_64 : decode cX0_init 64 = .ok (.dup, 1) := by decide +kernel
set_option maxRecDepth 100000 in
theorem dX0_init_65 : decode cX0_init 65 = .ok (.bipush 10, 2) := by decide +kernel
set_option maxRecDepth 100000 in
theorem dX0_init_67 : decode cX0_init 67 = .ok (.ldc 41, 2) := by decide +kernel
set_option maxRecDepth 100000 in
theorem dX0_init_69 : decode cX0_init 69 = .ok (.aastore, 1) := by decide +kernel
set_option maxRecDepth 100000 in
theorem dX0_init_70 : decode cX0_init 70 = .ok (.dup, 1) := by decide +kernel
set_option maxRecDepth 100000 in
theorem dX0_init_71 : decode cX0_init 71 = .ok (.bipush 11, 2) := by decide +kernel
set_option maxRecDepth 100000 in
theorem dX0_init_73 : decode cX0_init 73 = .ok (.ldc 43, 2) := by decide +kernel
set_option maxRecDepth 100000 in
theorem dX0_init_75 : decode cX0_init 75 = .ok (.aastore, 1) := by decide +kernel
set_option maxRecDepth 100000 in
theorem dX0_init_76 : decode cX0_init 76 = .ok (.dup, 1) := by decide +kernel
set_option maxRecDepth 100000 in
theorem dX0_init_77 : decode cX0_init 77 = .ok (.bipush 12, 2) := by decide +kernel
set_option maxRecDepth 100000 in
theorem dX0_init_79 : decode cX0_init 79 = .ok (.ldc 45, 2) := by decide +kernel
set_option maxRecDepth 100000 in
theorem dX0_init_81 : decode cX0_init 81 = .ok (.aastore, 1) := by decide +kernel
set_option maxRecDepth 100000 in
theorem dX0_init_82 : decode cX0_init 82 = .ok (.dup, 1) := by decide +kernel
set_option maxRecDepth 100000 in
theorem dX0_init_83 : decode cX0_init 83 = .ok (.bipush 13, 2) := by decide +kernel
set_option maxRecDepth 100000 in
theorem dX0_init_85 : decode cX0_init 85 = .ok (.ldc 47, 2) := by decide +kernel
set_option maxRecDepth 100000 in
theorem dX0_init_87 : decode cX0_init 87 = .ok (.aastore, 1) := by decide +kernel
set_option maxRecDepth 100000 in
theorem dX0_init_88 : decode cX0_init 88 = .ok (.dup, 1) := by decide +kernel
set_option maxRecDepth 100000 in
theorem dX0_init_89 : decode cX0_init 89 = .ok (.bipush 14, 2) := by decide +kernel
set_option maxRecDepth 100000 in
theorem dX0_init_91 : decode cX0_init 91 = .ok (.ldc 49, 2) := by decide +kernel
set_option maxRecDepth 100000 in
theorem dX0_init_93 : decode cX0_init 93 = .ok (.aastore, 1) := by decide +kernel
set_option maxRecDepth 100000 in
theorem dX0_init_94 : decode cX0_init 94 = .ok (.dup, 1) := by decide +kernel
set_option maxRecDepth 100000 in
theorem dX0_init_95 : decode cX0_init 95 = .ok (.bipush 15, 2) := by decide +kernel
set_option maxRecDepth 100000 in
theorem dX0_init_97 : decode cX0_init 97 = .ok (.ldc 51, 2) := by decide +kernel
set_option maxRecDepth 100000 in
theorem dX0_init_99 : decode cX0_init 99 = .ok (.aastore, 1) := by decide +kernel
set_option maxRecDepth 100000 in
theorem dX0_init_100 : decode cX0_init 100 = .ok (.dup, 1) := by decide +kernel
set_option maxRecDepth 100000 in
theorem dX0_init_101 : decode cX0_init 101 = .ok (.bipush 16, 2) := by decide +kernel
set_option maxRecDepth 100000 in
theorem dX0_init_103 : decode cX0_init 103 = .ok (.ldc 53, 2) := by decide +kernel
set_option maxRecDepth 100000 in
theorem dX0_init_105 : decode cX0_init 105 = .ok (.aastore, 1) := by decide +kernel
set_option maxRecDepth 100000 in
theorem dX0_init_106 : decode cX0_init 106 = .ok (.dup, 1) := by decide +kernel
set_option maxRecDepth 100000 in
theorem dX0_init_107 : decode cX0_init 107 = .ok (.bipush 17, 2) := by decide +kernel
set_option maxRecDepth 100000 in
theorem dX0_init_109 : decode cX0_init 109 = .ok (.ldc 55, 2) := by decide +kernel
set_option maxRecDepth 100000 in
theorem dX0_init_111 : decode cX0_init 111 = .ok (.aastore, 1) := by decide +kernel
set_option maxRecDepth 100000 in
theorem dX0_init_112 : decode cX0_init 112 = .ok (.dup, 1) := by decide +kernel
set_option maxRecDepth 100000 in
theorem dX0_init_113 : decode cX0_init 113 = .ok (.bipush 18, 2) := by decide +kernel
set_option maxRecDepth 100000 in
theorem dX0_init_115 : decode cX0_init 115 = .ok (.ldc 57, 2) := by decide +kernel
set_option maxRecDepth 100000 in
theorem dX0_init_117 : decode cX0_init 117 = .ok (.aastore, 1) := by decide +kernel
set_option maxRecDepth 100000 in
theorem dX0_init_118 : decode cX0_init 118 = .ok (.dup, 1) := by decide +kernel
set_option maxRecDepth 100000 in
theorem dX0_init_119 : decode cX0_init 119 = .ok (.bipush 19, 2) := by decide +kernel
set_option maxRecDepth 100000 in
theorem dX0_init_121 : decode cX0_init 121 = .ok (.ldc 59, 2) := by decide +kernel
set_option maxRecDepth 100000 in
theorem dX0_init_123 : decode cX0_init 123 = .ok (.aastore, 1) := by decide +kernel
set_option maxRecDepth 100000 in
theorem dX0_init_124 : decode cX0_init 124 = .ok (.dup, 1) := by decide +kernel
set_option maxRecDepth 100000 in
theorem dX0_init_125 : decode cX0_init 125 = .ok (.bipush 20, 2) := by decide +kernel
set_option maxRecDepth 100000 in
theorem dX0_init_127 : decode cX0_init 127 = .ok (.ldc 61, 2) := by decide +kernel
set_option maxRecDepth 100000 in
theorem dX0_init_129 : decode cX0_init 129 = .ok (.aastore, 1) := by decide +kernel
set_option maxRecDepth 100000 in
theorem dX0_init_130 : decode cX0_init 130 = .ok (.dup, 1) := by decide +kernel
set_option maxRecDepth 100000 in
theorem dX0_init_131 : decode cX0_init 131 = .ok (.bipush 21, 2) := by decide +kernel
set_option maxRecDepth 100000 in
theorem dX0_init_133 : decode cX0_init 133 = .ok (.ldc 63, 2) := by decide +kernel
set_option maxRecDepth 100000 in
theorem dX0_init_135 : decode cX0_init 135 = .ok (.aastore, 1) := by decide +kernel
set_option maxRecDepth 100000 in
theorem dX0_init_136 : decode cX0_init 136 = .ok (.dup, 1) := by decide +kernel
set_option maxRecDepth 100000 in
theorem dX0_init_137 : decode cX0_init 137 = .ok (.bipush 22, 2) := by decide +kernel
set_option maxRecDepth 100000 in
theorem dX0_init_139 : decode cX0_init 139 = .ok (.ldc 65, 2) := by decide +kernel
set_option maxRecDepth 100000 in
theorem dX0_init_141 : decode cX0_init 141 = .ok (.aastore, 1) := by decide +kernel
set_option maxRecDepth 100000 in
theorem dX0_init_142 : decode cX0_init 142 = .ok (.dup, 1) := by decide +kernel
set_option maxRecDepth 100000 in
theorem dX0_init_143 : decode cX0_init 143 = .ok (.bipush 23, 2) := by decide +kernel
set_option maxRecDepth 100000 in
theorem dX0_init_145 : decode cX0_init 145 = .ok (.ldc 67, 2) := by decide +kernel
set_option maxRecDepth 100000 in
theorem dX0_init_147 : decode cX0_init 147 = .ok (.aastore, 1) := by decide +kernel
set_option maxRecDepth 100000 in
theorem dX0_init_148 : decode cX0_init 148 = .ok (.dup, 1) := by decide +kernel
set_option maxRecDepth 100000 in
theorem dX0_init_149 : decode cX0_init 149 = .ok (.bipush 24, 2) := by decide +kernel
set_option maxRecDepth 100000 in
theorem dX0_init_151 : decode cX0_init 151 = .ok (.ldc 69, 2) := by decide +kernel
set_option maxRecDepth 100000 in
theorem dX0_init_153 : decode cX0_init 153 = .ok (.aastore, 1) := by decide +kernel
set_option maxRecDepth 100000 in
theorem dX0_init_154 : decode cX0_init 154 = .ok (.dup, 1) := by decide +kernel
set_option maxRecDepth 100000 in
theorem dX0_init_155 : decode cX0_init 155 = .ok (.bipush 25, 2) := by decide +kernel
set_option maxRecDepth 100000 in
theorem dX0_init_157 : decode cX0_init 157 = .ok (.ldc 71, 2) := by decide +kernel
set_option maxRecDepth 100000 in
theorem dX0_init_159 : decode cX0_init 159 = .ok (.aastore, 1) := by decide +kernel
set_option maxRecDepth 100000 in
theorem dX0_init_160 : decode cX0_init 160 = .ok (.dup, 1) := by decide +kernel
set_option maxRecDepth 100000 in
theorem dX0_init_161 : decode cX0_init 161 = .ok (.bipush 26, 2) := by decide +kernel
set_option maxRecDepth 100000 in
theorem dX0_init_163 : decode cX0_init 163 = .ok (.ldc 73, 2) := by decide +kernel
set_option maxRecDepth 100000 in
theorem dX0_init_165 : decode cX0_init 165 = .ok (.aastore, 1) := by decide +kernel
set_option maxRecDepth 100000 in
theorem dX0_init_166 : decode cX0_init 166 = .ok (.dup, 1) := by decide +kernel
set_option maxRecDepth 100000 in
theorem dX0_init_167 : decode cX0_init 167 = .ok (.bipush 27, 2) := by decide +kernel
set_option maxRecDepth 100000 in
theorem dX0_init_169 : decode cX0_init 169 = .ok (.ldc 75, 2) := by decide +kernel
set_option maxRecDepth 100000 in
theorem dX0_init_171 : decode cX0_init 171 = .ok (.aastore, 1) := by decide +kernel
set_option maxRecDepth 100000 in
theorem dX0_init_172 : decode cX0_init 172 = .ok (.dup, 1) := by decide +kernel
set_option maxRecDepth 100000 in
theorem dX0_init_173 : decode cX0_init 173 = .ok (.bipush 28, 2) := by decide +kernel
set_option maxRecDepth 100000 in
theorem dX0_init_175 : decode cX0_init 175 = .ok (.ldc 77, 2) := by decide +kernel
set_option maxRecDepth 100000 in
theorem dX0_init_177 : decode cX0_init 177 = .ok (.aastore, 1) := by decide +kernel
set_option maxRecDepth 100000 in
theorem dX0_init_178 : decode cX0_init 178 = .ok (.dup, 1) := by decide +kernel
set_option maxRecDepth 100000 in
theorem dX0_init_179 : decode cX0_init 179 = .ok (.bipush 29, 2) := by decide +kernel
set_option maxRecDepth 100000 in
theorem dX0_init_181 : decode cX0_init 181 = .ok (.ldc 79, 2) := by decide +kernel
set_option maxRecDepth 100000 in
theorem dX0_init_183 : decode cX0_init 183 = .ok (.aastore, 1) := by decide +kernel
set_option maxRecDepth 100000 in
theorem dX0_init_184 : decode cX0_init 184 = .ok (.dup, 1) := by decide +kernel
set_option maxRecDepth 100000 in
theorem dX0_init_185 : decode cX0_init 185 = .ok (.bipush 30, 2) := by decide +kernel
set_option maxRecDepth 100000 in
theorem dX0_init_187 : decode cX0_init 187 = .ok (.ldc 81, 2) := by decide +kernel
set_option maxRecDepth 100000 in
theorem dX0_init_189 : decode cX0_init 189 = .ok (.aastore, 1) := by decide +kernel
set_option maxRecDepth 100000 in
theorem dX0_init_190 : decode cX0_init 190 = .ok (.dup, 1) := by decide +kernel
set_option maxRecDepth 100000 in
theorem dX0_init_191 : decode cX0_init 191 = .ok (.bipush 31, 2) := by decide +kernel
set_option maxRecDepth 100000 in
theorem dX0_init_193 : decode cX0_init 193 = .ok (.ldc 83, 2) := by decide +kernel
set_option maxRecDepth 100000 in
theorem dX0_init_195 : decode cX0_init 195 = .ok (.aastore, 1) := by decide +kernel
set_option maxRecDepth 100000 in
theorem dX0_init_196 : decode cX0_init 196 = .ok (.dup, 1) := by decide +kernel
set_option maxRecDepth 100000 in
theorem dX0_init_197 : decode cX0_init 197 = .ok (.bipush 32, 2) := by decide +kernel
set_option maxRecDepth 100000 in
theorem dX0_init_199 : decode cX0_init 199 = .ok (.ldc 85, 2) := by decide +kernel
set_option maxRecDepth 100000 in
theorem dX0_init_201 : decode cX0_init 201 = .ok (.aastore, 1) := by decide +kernel
set_option maxRecDepth 100000 in
theorem dX0_init_202 : decode cX0_init 202 = .ok (.dup, 1) := by decide +kernel
set_option maxRecDepth 100000 in
theorem dX0_init_203 : decode cX0_init 203 = .ok (.bipush 33, 2) := by decide +kernel
set_option maxRecDepth 100000 in
theorem dX0_init_205 : decode cX0_init 205 = .ok (.ldc 87, 2) := by decide +kernel
set_option maxRecDepth 100000 in
theorem dX0_init_207 : decode cX0_init 207 = .ok (.aastore, 1) := by decide +kernel
set_option maxRecDepth 100000 in
theorem dX0_init_208 : decode cX0_init 208 = .ok (.dup, 1) := by decide +kernel
set_option maxRecDepth 100000 in
theorem dX0_init_209 : decode cX0_init 209 = .ok (.bipush 34, 2) := by decide +kernel
set_option maxRecDepth 100000 in
theorem dX0_init_211 : decode cX0_init 211 = .ok (.ldc 89, 2) := by decide +kernel
set_option maxRecDepth 100000 in
theorem dX0_init_213 : decode cX0_init 213 = .ok (.aastore, 1) := by decide +kernel
set_option maxRecDepth 100000 in
theorem dX0_init_214 : decode cX0_init 214 = .ok (.putfield 91, 3) := by decide +kernel
set_option maxRecDepth 100000 in
theorem dX0_init_217 : decode cX0_init 217 = .ok (.aload_n 0, 1) := by decide +kernel
set_option maxRecDepth 100000 in
theorem dX0_init_218 : decode cX0_init 218 = .ok (.sipush 12000, 3) := by decide +kernel
set_option maxRecDepth 100000 in
theorem dX0_init_221 : decode cX0_init 221 = .ok (.newarray .byte, 2) := by decide +kernel
set_option maxRecDepth 100000 in
theorem dX0_init_223 : decode cX0_init 223 = .ok (.putfield 95, 3) := by decide +kernel
set_option maxRecDepth 100000 in
theorem dX0_init_226 : decode cX0_init 226 = .ok (.aload_n 0, 1) := by decide +kernel
set_option maxRecDepth 100000 in
theorem dX0_init_227 : decode cX0_init 227 = .ok (.sipush 12000, 3) := by decide +kernel
set_option maxRecDepth 100000 in
theorem dX0_init_230 : decode cX0_init 230 = .ok (.newarray .byte, 2) := by decide +kernel
set_option maxRecDepth 100000 in
theorem dX0_init_232 : decode cX0_init 232 = .ok (.putfield 99, 3) := by decide +kernel
set_option maxRecDepth 100000 in
theorem dX0_init_235 : decode cX0_init 235 = .ok (.aload_n 0, 1) := by decide +kernel
set_option maxRecDepth 100000 in
theorem dX0_init_236 : decode cX0_init 236 = .ok (.sipush 24000, 3) := by decide +kernel
set_option maxRecDepth 100000 in
theorem dX0_init_239 : decode cX0_init 239 = .ok (.newarray .byte, 2) := by decide +kernel
set_option maxRecDepth 100000 in
theorem dX0_init_241 : decode cX0_init 241 = .ok (.putfield 102, 3) := by decide +kernel
set_option maxRecDepth 100000 in
theorem dX0_init_244 : decode cX0_init 244 = .ok (.aload_n 0, 1) := by decide +kernel
set_option maxRecDepth 100000 in
theorem dX0_init_245 : decode cX0_init 245 = .ok (.bipush 8, 2) := by decide +kernel
set_option maxRecDepth 100000 in
theorem dX0_init_247 : decode cX0_init 247 = .ok (.newarray .int, 2) := by decide +kernel
set_option maxRecDepth 100000 in
theorem dX0_init_249 : decode cX0_init 249 = .ok (.putfield 105, 3) := by decide +kernel
set_option maxRecDepth 100000 in
theorem dX0_init_252 : decode cX0_init 252 = .ok (.aload_n 0, 1) := by decide +kernel
set_option maxRecDepth 100000 in
theorem dX0_init_253 : decode cX0_init 253 = .ok (.new 109, 3) := by decide +kernel
set_option maxRecDepth 100000 in
theorem dX0_init_256 : decode cX0_init 256 = .ok (.dup, 1) := by decide +kernel
set_option maxRecDepth 100000 in
theorem dX0_init_257 : decode cX0_init 257 = .ok (.invokespecial 111, 3) := by decide +kernel
set_option maxRecDepth 100000 in
theorem dX0_init_260 : decode cX0_init 260 = .ok (.putfield 112, 3) := by decide +kernel
set_option maxRecDepth 100000 in
theorem dX0_init_263 : decode cX0_init 263 = .ok (.aload_n 0, 1) := by decide +kernel
set_option maxRecDepth 100000 in
theorem dX0_init_264 : decode cX0_init 264 = .ok (.new 116, 3) := by decide +kernel
set_option maxRecDepth 100000 in
theorem dX0_init_267 : decode cX0_init 267 = .ok (.dup, 1) := by decide +kernel
set_option maxRecDepth 100000 in
theorem dX0_init_268 : decode cX0_init 268 = .ok (.invokespecial 118, 3) := by decide +kernel
set_option maxRecDepth 100000 in
theorem dX0_init_271 : decode cX0_init 271 = .ok (.putfield 119, 3) := by decide +kernel
set_option maxRecDepth 100000 in
theorem dX0_init_274 : decode cX0_init 274 = .ok (.aload_n 0, 1) := by decide +kernel
set_option maxRecDepth 100000 in
theorem dX0_init_275 : decode cX0_init 275 = .ok (.new 123, 3) := by decide +kernel
set_option maxRecDepth 100000 in
theorem dX0_init_278 : decode cX0_init 278 = .ok (.dup, 1) := by decide +kernel
set_option maxRecDepth 100000 in
theorem dX0_init_279 : decode cX0_init 279 = .ok (.new 125, 3) := by decide +kernel
set_option maxRecDepth 100000 in
theorem dX0_init_282 : decode cX0_init 282 = .ok (.dup, 1) := by decide +kernel
set_option maxRecDepth 100000 in
theorem dX0_init_283 : decode cX0_init 283 = .ok (.aload_n 0, 1) := by decide +kernel
set_option maxRecDepth 100000 in
theorem dX0_init_284 : decode cX0_init 284 = .ok (.getfield 99, 3) := by decide +kernel
set_option maxRecDepth 100000 in
theorem dX0_init_287 : decode cX0_init 287 = .ok (.aload_n 0, 1) := by decide +kernel
set_option maxRecDepth 100000 in
theorem dX0_init_288 : decode cX0_init 288 = .ok (.getfield 91, 3) := by decide +kernel
set_option maxRecDepth 100000 in
theorem dX0_init_291 : decode cX0_init 291 = .ok (.aload_n 0, 1) := by decide +kernel
set_option maxRecDepth 100000 in
theorem dX0_init_292 : decode cX0_init 292 = .ok (.getfield 112, 3) := by decide +kernel
set_option maxRecDepth 100000 in
theorem dX0_init_295 : decode cX0_init 295 = .ok (.invokespecial 127, 3) := by decide +kernel
set_option maxRecDepth 100000 in
theorem dX0_init_298 : decode cX0_init 298 = .ok (.aload_n 0, 1) := by decide +kernel
set_option maxRecDepth 100000 in
theorem dX0_init_299 : decode cX0_init 299 = .ok (.getfield 112, 3) := by decide +kernel
set_option maxRecDepth 100000 in
theorem dX0_init_302 : decode cX0_init 302 = .ok (.invokespecial 130, 3) := by decide +kernel
set_option maxRecDepth 100000 in
theorem dX0_init_305 : decode cX0_init 305 = .ok (.putfield 133, 3) := by decide +kernel
set_option maxRecDepth 100000 in
theorem dX0_init_308 : decode cX0_init 308 = .ok (.aload_n 0, 1) := by decide +kernel
set_option maxRecDepth 100000 in
theorem dX0_init_309 : decode cX0_init 309 = .ok (.new 137, 3) := by decide +kernel
set_option maxRecDepth 100000 in
theorem dX0_init_312 : decode cX0_init 312 = .ok (.dup, 1) := by decide +kernel
set_option maxRecDepth 100000 in
theorem dX0_init_313 : decode cX0_init 313 = .ok (.aload_n 0, 1) := by decide +kernel
set_option maxRecDepth 100000 in
theorem dX0_init_314 : decode cX0_init 314 = .ok (.getfield 112, 3) := by decide +kernel
set_option maxRecDepth 100000 in
theorem dX0_init_317 : decode cX0_init 317 = .ok (.aload_n 0, 1) := by decide +kernel
set_option maxRecDepth 100000 in
theorem dX0_init_318 : decode cX0_init 318 = .ok (.getfield 119, 3) := by decide +kernel
set_option maxRecDepth 100000 in
theorem dX0_init_321 : decode cX0_init 321 = .ok (.invokespecial 139, 3) := by decide +kernel
set_option maxRecDepth 100000 in
theorem dX0_init_324 : decode cX0_init 324 = .ok (.putfield 142, 3) := by decide +kernel
set_option maxRecDepth 100000 in
theorem dX0_init_327 : decode cX0_init 327 = .ok (.aload_n 0, 1) := by decide +kernel
set_option maxRecDepth 100000 in
theorem dX0_init_328 : decode cX0_init 328 = .ok (.new 146, 3) := by decide +kernel
set_option maxRecDepth 100000 in
theorem dX0_init_331 : decode cX0_init 331 = .ok (.dup, 1) := by decide +kernel
set_option maxRecDepth 100000 in
theorem dX0_init_332 : decode cX0_init 332 = .ok (.aload_n 0, 1) := by decide +kernel
set_option maxRecDepth 100000 in
theorem dX0_init_333 : decode cX0_init 333 = .ok (.getfield 119, 3) := by decide +kernel
set_option maxRecDepth 100000 in
theorem dX0_init_336 : decode cX0_init 336 = .ok (.invokespecial 148, 3) := by decide +kernel
set_option maxRecDepth 100000 in
theorem dX0_init_339 : decode cX0_init 339 = .ok (.putfield 151, 3) := by decide +kernel
set_option maxRecDepth 100000 in
theorem dX0_init_342 : decode cX0_init 342 = .ok (.aload_n 0, 1) := by decide +kernel
set_option maxRecDepth 100000 in
theorem dX0_init_343 : decode cX0_init 343 = .ok (.bipush 8, 2) := by decide +kernel
set_option maxRecDepth 100000 in
theorem dX0_init_345 : decode cX0_init 345 = .ok (.newarray .int, 2) := by decide +kernel
set_option maxRecDepth 100000 in
theorem dX0_init_347 : decode cX0_init 347 = .ok (.putfield 155, 3) := by decide +kernel
set_option maxRecDepth 100000 in
theorem dX0_init_350 : decode cX0_init 350 = .ok (.aload_n 0, 1) := by decide +kernel
set_option maxRecDepth 100000 in
theorem dX0_init_351 : decode cX0_init 351 = .ok (.iconst (-1), 1) := by decide +kernel
set_option maxRecDepth 100000 in
theorem dX0_init_352 : decode cX0_init 352 = .ok (.putfield 158, 3) := by decide +kernel
set_option maxRecDepth 100000 in
theorem dX0_init_355 : decode cX0_init 355 = .ok (.aload_n 0, 1) := by decide +kernel
set_option maxRecDepth 100000 in
theorem dX0_init_356 : decode cX0_init 356 = .ok (.iconst (-1), 1) := by decide +kernel
set_option maxRecDepth 100000 in
theorem dX0_init_357 : decode cX0_init 357 = .ok (.putfield 162, 3) := by decide +kernel
set_option maxRecDepth 100000 in
theorem dX0_init_360 : decode cX0_init 360 = .ok (.aload_n 0, 1) := by decide +kernel
set_option maxRecDepth 100000 in
theorem dX0_init_361 : decode cX0_init 361 = .ok (.sipush 24064, 3) := by decide +kernel
set_option maxRecDepth 100000 in
theorem dX0_init_364 : decode cX0_init 364 = .ok (.newarray .byte, 2) := by decide +kernel
set_option maxRecDepth 100000 in
theorem dX0_init_366 : decode cX0_init 366 = .ok (.putfield 165, 3) := by decide +kernel
set_option maxRecDepth 100000 in
theorem dX0_init_369 : decode cX0_init 369 = .ok (.aload_n 0, 1) := by decide +kernel
set_option maxRecDepth 100000 in
theorem dX0_init_370 : decode cX0_init 370 = .ok (.bipush 8, 2) := by decide +kernel
set_option maxRecDepth 100000 in
theorem dX0_init_372 : decode cX0_init 372 = .ok (.newarray .int, 2) := by decide +kernel
set_option maxRecDepth 100000 in
theorem dX0_init_374 : decode cX0_init 374 = .ok (.putfield 168, 3) := by decide +kernel
set_option maxRecDepth 100000 in
theorem dX0_init_377 : decode cX0_init 377 = .ok (.aload_n 0, 1) := by decide +kernel
set_option maxRecDepth 100000 in
theorem dX0_init_378 : decode cX0_init 378 = .ok (.getfield 112, 3) := by decide +kernel
set_option maxRecDepth 100000 in
theorem dX0_init_381 : decode cX0_init 381 = .ok (.iconst (-1), 1) := by decide +kernel
set_option maxRecDepth 100000 in
theorem dX0_init_382 : decode cX0_init 382 = .ok (.putfield 171, 3) := by decide +kernel
set_option maxRecDepth 100000 in
theorem dX0_init_385 : decode cX0_init 385 = .ok (.return_, 1) := by decide +kernel
set_option maxRecDepth 100000 in
def bX0_init (G : xG) (fr lo : Nat) (x0 : Nat) (h : xH) (Q : Outcome → xH → Prop) : Prop := tg h x0 = 1 ∧ 1 ≤ fr ∧ 12 ≤ lo ∧ nx h + 1 ≤ xGN G ∧ us h + (Int32.toNatClampNeg 35) ≤ xGU G ∧ (∀ (a6 : Nat) (h7 : xH), a6 = nx h + 1 → h7 = nA h 106 (Int32.toNatClampNeg 35) → xfresh h a6 → xGB G < a6 ∧ tg h7 (tx G 0) = 31 ∧ vp_in 0 (ln h7 a6) ∧ (∀ h15 : xH, h15 = tR h7 a6 (Int32.toNatClampNeg 0) (tx G 0) → xGB G < a6 ∧ tg h15 (tx G 1) = 31 ∧ vp_in 1 (ln h15 a6) ∧ (∀ h21 : xH, h21 = tR h15 a6 (Int32.toNatClampNeg 1) (tx G 1) → xGB G < a6 ∧ tg h21 (tx G 2) = 31 ∧ vp_in 2 (ln h21 a6) ∧ (∀ h27 : xH, h27 = tR h21 a6 (Int32.toNatClampNeg 2) (tx G 2) → xGB G < a6 ∧ tg h27 (tx G 3) = 31 ∧ vp_in 3 (ln h27 a6) ∧ (∀ h33 : xH, h33 = tR h27 a6 (Int32.toNatClampNeg 3) (tx G 3) → xGB G < a6 ∧ tg h33 (tx G 4) = 31 ∧ vp_in 4 (ln h33 a6) ∧ (∀ h39 : xH, h39 = tR h33 a6 (Int32.toNatClampNeg 4) (tx G 4) → xGB G < a6 ∧ tg h39 (tx G 5) = 31 ∧ vp_in 5 (ln h39 a6) ∧ (∀ h45 : xH, h45 = tR h39 a6 (Int32.toNatClampNeg 5) (tx G 5) → xGB G < a6 ∧ tg h45 (tx G 6) = 31 ∧ vp_in 6 (ln h45 a6) ∧ (∀ h51 : xH, h51 = tR h45 a6 (Int32.toNatClampNeg 6) (tx G 6) → xGB G < a6 ∧ tg h51 (tx G 7) = 31 ∧ vp_in 7 (ln h51 a6) ∧ (∀ h57 : xH, h57 = tR h51 a6 (Int32.toNatClampNeg 7) (tx G 7) → xGB G < a6 ∧ tg h57 (tx G 8) = 31 ∧ vp_in 8 (ln h57 a6) ∧ (∀ h63 : xH, h63 = tR h57 a6 (Int32.toNatClampNeg 8) (tx G 8) → xGB G < a6 ∧ tg h63 (tx G 9) = 31 ∧ vp_in 9 (ln h63 a6) ∧ (∀ h69 : xH, h69 = tR h63 a6 (Int32.toNatClampNeg 9) (tx G 9) → xGB G < a6 ∧ tg h69 (tx G 10) = 31 ∧ vp_in 10 (ln h69 a6) ∧ (∀ h75 : xH, h75 = tR h69 a6 (Int32.toNatClampNeg 10) (tx G 10) → xGB G < a6 ∧ tg h75 (tx G 11) = 31 ∧ vp_in 11 (ln h75 a6) ∧ (∀ h81 : xH, h81 = tR h75 a6 (Int32.toNatClampNeg 11) (tx G 11) → xGB G < a6 ∧ tg h81 (tx G 12) = 31 ∧ vp_in 12 (ln h81 a6) ∧ (∀ h87 : xH, h87 = tR h81 a6 (Int32.toNatClampNeg 12) (tx G 12) → xGB G < a6 ∧ tg h87 (tx G 13) = 31 ∧ vp_in 13 (ln h87 a6) ∧ (∀ h93 : xH, h93 = tR h87 a6 (Int32.toNatClampNeg 13) (tx G 13) → xGB G < a6 ∧ tg h93 (tx G 14) = 31 ∧ vp_in 14 (ln h93 a6) ∧ (∀ h99 : xH, h99 = tR h93 a6 (Int32.toNatClampNeg 14) (tx G 14) → xGB G < a6 ∧ tg h99 (tx G 15) = 31 ∧ vp_in 15 (ln h99 a6) ∧ (∀ h105 : xH, h105 = tR h99 a6 (Int32.toNatClampNeg 15) (tx G 15) → xGB G < a6 ∧ tg h105 (tx G 16) = 31 ∧ vp_in 16 (ln h105 a6) ∧ (∀ h111 : xH, h111 = tR h105 a6 (Int32.toNatClampNeg 16) (tx G 16) → xGB G < a6 ∧ tg h111 (tx G 17) = 31 ∧ vp_in 17 (ln h111 a6) ∧ (∀ h117 : xH, h117 = tR h111 a6 (Int32.toNatClampNeg 17) (tx G 17) → xGB G < a6 ∧ tg h117 (tx G 18) = 31 ∧ vp_in 18 (ln h117 a6) ∧ (∀ h123 : xH, h123 = tR h117 a6 (Int32.toNatClampNeg 18) (tx G 18) → xGB G < a6 ∧ tg h123 (tx G 19) = 31 ∧ vp_in 19 (ln h123 a6) ∧ (∀ h129 : xH, h129 = tR h123 a6 (Int32.toNatClampNeg 19) (tx G 19) → xGB G < a6 ∧ tg h129 (tx G 20) = 31 ∧ vp_in 20 (ln h129 a6) ∧ (∀ h135 : xH, h135 = tR h129 a6 (Int32.toNatClampNeg 20) (tx G 20) → xGB G < a6 ∧ tg h135 (tx G 21) = 31 ∧ vp_in 21 (ln h135 a6) ∧ (∀ h141 : xH, h141 = tR h135 a6 (Int32.toNatClampNeg 21) (tx G 21) → xGB G < a6 ∧ tg h141 (tx G 22) = 31 ∧ vp_in 22 (ln h141 a6) ∧ (∀ h147 : xH, h147 = tR h141 a6 (Int32.toNatClampNeg 22) (tx G 22) → xGB G < a6 ∧ tg h147 (tx G 23) = 31 ∧ vp_in 23 (ln h147 a6) ∧ (∀ h153 : xH, h153 = tR h147 a6 (Int32.toNatClampNeg 23) (tx G 23) → xGB G < a6 ∧ tg h153 (tx G 24) = 31 ∧ vp_in 24 (ln h153 a6) ∧ (∀ h159 : xH, h159 = tR h153 a6 (Int32.toNatClampNeg 24) (tx G 24) → xGB G < a6 ∧ tg h159 (tx G 25) = 31 ∧ vp_in 25 (ln h159 a6) ∧ (∀ h165 : xH, h165 = tR h159 a6 (Int32.toNatClampNeg 25) (tx G 25) → xGB G < a6 ∧ tg h165 (tx G 26) = 31 ∧ vp_in 26 (ln h165 a6) ∧ (∀ h171 : xH, h171 = tR h165 a6 (Int32.toNatClampNeg 26) (tx G 26) → xGB G < a6 ∧ tg h171 (tx G 27) = 31 ∧ vp_in 27 (ln h171 a6) ∧ (∀ h177 : xH, h177 = tR h171 a6 (Int32.toNatClampNeg 27) (tx G 27) → xGB G < a6 ∧ tg h177 (tx G 28) = 31 ∧ vp_in 28 (ln h177 a6) ∧ (∀ h183 : xH, h183 = tR h177 a6 (Int32.toNatClampNeg 28) (tx G 28) → xGB G < a6 ∧ tg h183 (tx G 29) = 31 ∧ vp_in 29 (ln h183 a6) ∧ (∀ h189 : xH, h189 = tR h183 a6 (Int32.toNatClampNeg 29) (tx G 29) → xGB G < a6 ∧ tg h189 (tx G 30) = 31 ∧ vp_in 30 (ln h189 a6) ∧ (∀ h195 : xH, h195 = tR h189 a6 (Int32.toNatClampNeg 30) (tx G 30) → xGB G < a6 ∧ tg h195 (tx G 31) = 31 ∧ vp_in 31 (ln h195 a6) ∧ (∀ h201 : xH, h201 = tR h195 a6 (Int32.toNatClampNeg 31) (tx G 31) → xGB G < a6 ∧ tg h201 (tx G 32) = 31 ∧ vp_in 32 (ln h201 a6) ∧ (∀ h207 : xH, h207 = tR h201 a6 (Int32.toNatClampNeg 32) (tx G 32) → xGB G < a6 ∧ tg h207 (tx G 33) = 31 ∧ vp_in 33 (ln h207 a6) ∧ (∀ h213 : xH, h213 = tR h207 a6 (Int32.toNatClampNeg 33) (tx G 33) → xGB G < a6 ∧ tg h213 (tx G 34) = 31 ∧ vp_in 34 (ln h213 a6) ∧ (∀ h219 : xH, h219 = tR h213 a6 (Int32.toNatClampNeg 34) (tx G 34) → (∀ h257 : xH, h257 = sR h219 x0 0 a6 → nx h257 + 1 ≤ xGN G ∧ us h257 + (Int32.toNatClampNeg 12000) ≤ xGU G ∧ (∀ (a261 : Nat) (h262 : xH), a261 = nx h257 + 1 → h262 = nA h257 103 (Int32.toNatClampNeg 12000) → xfresh h257 a261 → (∀ h269 : xH, h269 = sR h262 x0 1 a261 → nx h269 + 1 ≤ xGN G ∧ us h269 + (Int32.toNatClampNeg 12000) ≤ xGU G ∧ (∀ (a273 : Nat) (h274 : xH), a273 = nx h269 + 1 → h274 = nA h269 103 (Int32.toNatClampNeg 12000) → xfresh h269 a273 → (∀ h281 : xH, h281 = sR h274 x0 2 a273 → nx h281 + 1 ≤ xGN G ∧ us h281 + (Int32.toNatClampNeg 24000) ≤ xGU G ∧ (∀ (a285 : Nat) (h286 : xH), a285 = nx h281 + 1 → h286 = nA h281 103 (Int32.toNatClampNeg 24000) → xfresh h281 a285 → (∀ h293 : xH, h293 = sR h286 x0 5 a285 → nx h293 + 1 ≤ xGN G ∧ us h293 + (Int32.toNatClampNeg 8) ≤ xGU G ∧ (∀ (a297 : Nat) (h298 : xH), a297 = nx h293 + 1 → h298 = nA h293 100 (Int32.toNatClampNeg 8) → xfresh h293 a297 → (∀ h305 : xH, h305 = sR h298 x0 6 a297 → nx h305 + 1 ≤ xGN G ∧ us h305 + 2 ≤ xGU G ∧ (∀ (a309 : Nat) (h310 : xH), a309 = nx h305 + 1 → h310 = nO h305 2 2 → xfresh h305 a309 → 1 ≤ fr ∧ 14 ≤ lo ∧ xRv G YX1_init (fr - 1) (lo - 14) [rv a309] h310 (fun h317 => xext h310 h317 → (∀ h323 : xH, h323 = sR h317 x0 7 a309 → nx h323 + 1 ≤ xGN G ∧ us h323 + 17 ≤ xGU G ∧ (∀ (a327 : Nat) (h328 : xH), a327 = nx h323 + 1 → h328 = nO h323 3 17 → xfresh h323 a327 → 1 ≤ fr ∧ 14 ≤ lo ∧ xRv G YX2_init (fr - 1) (lo - 14) [rv a327] h328 (fun h335 => xext h328 h335 → (∀ h341 : xH, h341 = sR h335 x0 8 a327 → nx h341 + 1 ≤ xGN G ∧ us h341 + 5 ≤ xGU G ∧ (∀ (a345 : Nat) (h346 : xH), a345 = nx h341 + 1 → h346 = nO h341 4 5 → xfresh h341 a345 → nx h346 + 1 ≤ xGN G ∧ us h346 + 6 ≤ xGU G ∧ (∀ (a353 : Nat) (h354 : xH), a353 = nx h346 + 1 → h354 = nO h346 5 6 → xfresh h346 a353 → 1 ≤ fr ∧ 19 ≤ lo ∧ xRv G YX4_init (fr - 1) (lo - 19) [rv a353, rv (fR h354 x0 2), rv (fR h354 x0 0), rv (fR h354 x0 7)] h354 (fun h364 => xext h354 h364 → 1 ≤ fr ∧ 16 ≤ lo ∧ xRv G YX3_init (fr - 1) (lo - 16) [rv a345, rv a353, rv (fR h364 x0 7)] h364 (fun h372 => xext h364 h372 → (∀ h376 : xH, h376 = sR h372 x0 9 a345 → nx h376 + 1 ≤ xGN G ∧ us h376 + 29 ≤ xGU G ∧ (∀ (a380 : Nat) (h381 : xH), a380 = nx h376 + 1 → h381 = nO h376 6 29 → xfresh h376 a380 → 1 ≤ fr ∧ 16 ≤ lo ∧ xRv G YX5_init (fr - 1) (lo - 16) [rv a380, rv (fR h381 x0 7), rv (fR h381 x0 8)] h381 (fun h390 => xext h381 h390 → (∀ h394 : xH, h394 = sR h390 x0 10 a380 → nx h394 + 1 ≤ xGN G ∧ us h394 + 31 ≤ xGU G ∧ (∀ (a398 : Nat) (h399 : xH), a398 = nx h394 + 1 → h399 = nO h394 10 31 → xfresh h394 a398 → 1 ≤ fr ∧ 15 ≤ lo ∧ xRv G YX9_init (fr - 1) (lo - 15) [rv a398, rv (fR h399 x0 8)] h399 (fun h408 => xext h399 h408 → (∀ h412 : xH, h412 = sR h408 x0 11 a398 → nx h412 + 1 ≤ xGN G ∧ us h412 + (Int32.toNatClampNeg 8) ≤ xGU G ∧ (∀ (a416 : Nat) (h417 : xH), a416 = nx h412 + 1 → h417 = nA h412 100 (Int32.toNatClampNeg 8) → xfresh h412 a416 → (∀ h424 : xH, h424 = sR h417 x0 13 a416 → (∀ h427 : xH, h427 = sI h424 x0 16 (-1) → (∀ h430 : xH, h430 = sI h427 x0 17 (-1) → nx h430 + 1 ≤ xGN G ∧ us h430 + (Int32.toNatClampNeg 24064) ≤ xGU G ∧ (∀ (a434 : Nat) (h435 : xH), a434 = nx h430 + 1 → h435 = nA h430 103 (Int32.toNatClampNeg 24064) → xfresh h430 a434 → (∀ h442 : xH, h442 = sR h435 x0 19 a434 → nx h442 + 1 ≤ xGN G ∧ us h442 + (Int32.toNatClampNeg 8) ≤ xGU G ∧ (∀ (a446 : Nat) (h447 : xH), a446 = nx h442 + 1 → h447 = nA h442 100 (Int32.toNatClampNeg 8) → xfresh h442 a446 → (∀ h454 : xH, h454 = sR h447 x0 20 a446 → tg h454 (fR h454 x0 7) = 2 ∧ (∀ h458 : xH, h458 = sI h454 (fR h454 x0 7) 257 (-1) → Q (.returned none) h458))))))))))) (fun r h2 => Q (.threw r) h2)))) (fun r h2 => Q (.threw r) h2)))) (fun r h2 => Q (.threw r) h2)) (fun r h2 => Q (.threw r) h2))))) (fun r h2 => Q (.threw r) h2)))) (fun r h2 => Q (.threw r) h2)))))))))))))))))))))))))))))))))))))))))))))))
set_option maxRecDepth 100000 in
theorem uX0_init {G : xG} {fr lo : Nat} {x0 : Nat} {h : xH} {Q : Outcome → xH → Prop} (hq : bX0_init G fr lo x0 h Q) : xP G YX0_init fr lo 0 [(0, rv x0)] [] h Q := by
  unfold bX0_init at hq
  refine x_aload_n 0 dX0_init_0 rfl ?_
  obtain ⟨g1, hq⟩ := hq
  obtain ⟨g2, g3, hq⟩ := hq
  refine x_objInit (by rw [g1]; decide) q437 q438 q439 dX0_init_1 g2 (by simp only [List.map_cons, List.map_nil, List.sum_cons, List.sum_nil, rv_cat, Value.category]; omega) ?_
  refine x_aload_n 0 dX0_init_4 rfl ?_
  refine x_bipush (v := 35) dX0_init_5 (by decide) ?_
  obtain ⟨g4, g5, hq⟩ := hq
  obtain ⟨a6, e8⟩ : ∃ y, y = nx h + 1 := ⟨_, rfl⟩
  obtain ⟨h7, e9⟩ : ∃ y, y = nA h 106 (Int32.toNatClampNeg 35) := ⟨_, rfl⟩
  refine x_anew 6 anX0_19 dX0_init_7 (by decide) (by decide) g4 g5 e8 e9 (fun f10 => ?_)
  replace hq := hq a6 h7 e8 e9 f10
  have t11 : tg h7 a6 = 106 := by rw [e9, e8]; exact tg_nA
  refine x_dup dX0_init_10 (rv_cat _) ?_
  refine x_iconst (v := 0) dX0_init_11 (by decide) ?_
  refine x_ldcS (n := 0) 0 srX0_21 dX0_init_12 ?_
  obtain ⟨w12, hq⟩ := hq
  obtain ⟨g13, hq⟩ := hq
  obtain ⟨i14, hq⟩ := hq
  obtain ⟨h15, e16⟩ : ∃ y, y = tR h7 a6 (Int32.toNatClampNeg 0) (tx G 0) := ⟨_, rfl⟩
  replace hq := hq h15 e16
  refine x_aast 6 30 as_6_30 t11 (Or.inr w12) g13 i14 dX0_init_14 e16 ?_
  refine x_dup dX0_init_15 (rv_cat _) ?_
  refine x_iconst (v := 1) dX0_init_16 (by decide) ?_
  refine x_ldcS (n := 1) 1 srX0_23 dX0_init_17 ?_
  have t17 : tg h15 a6 = 106 := by rw [e16]; exact t11
  obtain ⟨w18, hq⟩ := hq
  obtain ⟨g19, hq⟩ := hq
  obtain ⟨i20, hq⟩ := hq
  obtain ⟨h21, e22⟩ : ∃ y, y = tR h15 a6 (Int32.toNatClampNeg 1) (tx G 1) := ⟨_, rfl⟩
  replace hq := hq h21 e22
  refine x_aast 6 30 as_6_30 t17 (Or.inr w18) g19 i20 dX0_init_19 e22 ?_
  refine x_dup dX0_init_20 (rv_cat _) ?_
  refine x_iconst (v := 2) dX0_init_21 (by decide) ?_
  refine x_ldcS (n := 2) 2 srX0_25 dX0_init_22 ?_
  have t23 : tg h21 a6 = 106 := by rw [e22]; exact t17
  obtain ⟨w24, hq⟩ := hq
  obtain ⟨g25, hq⟩ := hq
  obtain ⟨i26, hq⟩ := hq
  obtain ⟨h27, e28⟩ : ∃ y, y = tR h21 a6 (Int32.toNatClampNeg 2) (tx G 2) := ⟨_, rfl⟩
  replace hq := hq h27 e28
  refine x_aast 6 30 as_6_30 t23 (Or.inr w24) g25 i26 dX0_init_24 e28 ?_
  refine x_dup dX0_init_25 (rv_cat _) ?_
  refine x_iconst (v := 3) dX0_init_26 (by decide) ?_
  refine x_ldcS (n := 3) 3 srX0_27 dX0_init_27 ?_
  have t29 : tg h27 a6 = 106 := by rw [e28]; exact t23
  obtain ⟨w30, hq⟩ := hq
  obtain ⟨g31, hq⟩ := hq
  obtain ⟨i32, hq⟩ := hq
  obtain ⟨h33, e34⟩ : ∃ y, y = tR h27 a6 (Int32.toNatClampNeg 3) (tx G 3) := ⟨_, rfl⟩
  replace hq := hq h33 e34
  refine x_aast 6 30 as_6_30 t29 (Or.inr w30) g31 i32 dX0_init_29 e34 ?_
  refine x_dup dX0_init_30 (rv_cat _) ?_
  refine x_iconst (v := 4) dX0_init_31 (by decide) ?_
  refine x_ldcS (n := 4) 4 srX0_29 dX0_init_32 ?_
  have t35 : tg h33 a6 = 106 := by rw [e34]; exact t29
  obtain ⟨w36, hq⟩ := hq
  obtain ⟨g37, hq⟩ := hq
  obtain ⟨i38, hq⟩ := hq
  obtain ⟨h39, e40⟩ : ∃ y, y = tR h33 a6 (Int32.toNatClampNeg 4) (tx G 4) := ⟨_, rfl⟩
  replace hq := hq h39 e40
  refine x_aast 6 30 as_6_30 t35 (Or.inr w36) g37 i38 dX0_init_34 e40 ?_
  refine x_dup dX0_init_35 (rv_cat _) ?_
  refine x_iconst (v := 5) dX0_init_36 (by decide) ?_
  refine x_ldcS (n := 5) 5 srX0_31 dX0_init_37 ?_
  have t41 : tg h39 a6 = 106 := by rw [e40]; exact t35
  obtain ⟨w42, hq⟩ := hq
  obtain ⟨g43, hq⟩ := hq
  obtain ⟨i44, hq⟩ := hq
  obtain ⟨h45, e46⟩ : ∃ y, y = tR h39 a6 (Int32.toNatClampNeg 5) (tx G 5) := ⟨_, rfl⟩
  replace hq := hq h45 e46
  refine x_aast 6 30 as_6_30 t41 (Or.inr w42) g43 i44 dX0_init_39 e46 ?_
  refine x_dup dX0_init_40 (rv_cat _) ?_
  refine x_bipush (v := 6) dX0_init_41 (by decide) ?_
  refine x_ldcS (n := 6) 6 srX0_33 dX0_init_43 ?_
  have t47 : tg h45 a6 = 106 := by rw [e46]; exact t41
  obtain ⟨w48, hq⟩ := hq
  obtain ⟨g49, hq⟩ := hq
  obtain ⟨i50, hq⟩ := hq
  obtain ⟨h51, e52⟩ : ∃ y, y = tR h45 a6 (Int32.toNatClampNeg 6) (tx G 6) := ⟨_, rfl⟩
  replace hq := hq h51 e52
  refine x_aast 6 30 as_6_30 t47 (Or.inr w48) g49 i50 dX0_init_45 e52 ?_
  refine x_dup dX0_init_46 (rv_cat _) ?_
  refine x_bipush (v := 7) dX0_init_47 (by decide) ?_
  refine x_ldcS (n := 7) 7 srX0_35 dX0_init_49 ?_
  have t53 : tg h51 a6 = 106 := by rw [e52]; exact t47
  obtain ⟨w54, hq⟩ := hq
  obtain ⟨g55, hq⟩ := hq
  obtain ⟨i56, hq⟩ := hq
  obtain ⟨h57, e58⟩ : ∃ y, y = tR h51 a6 (Int32.toNatClampNeg 7) (tx G 7) := ⟨_, rfl⟩
  replace hq := hq h57 e58
  refine x_aast 6 30 as_6_30 t53 (Or.inr w54) g55 i56 dX0_init_51 e58 ?_
  refine x_dup dX0_init_52 (rv_cat _) ?_
  refine x_bipush (v := 8) dX0_init_53 (by decide) ?_
  refine x_ldcS (n := 8) 8 srX0_37 dX0_init_55 ?_
  have t59 : tg h57 a6 = 106 := by rw [e58]; exact t53
  obtain ⟨w60, hq⟩ := hq
  obtain ⟨g61, hq⟩ := hq
  obtain ⟨i62, hq⟩ := hq
  obtain ⟨h63, e64⟩ : ∃ y, y = tR h57 a6 (Int32.toNatClampNeg 8) (tx G 8) := ⟨_, rfl⟩
  replace hq := hq h63 e64
  refine x_aast 6 30 as_6_30 t59 (Or.inr w60) g61 i62 dX0_init_57 e64 ?_
  refine x_dup dX0_init_58 (rv_cat _) ?_
  refine x_bipush (v := 9) dX0_init_59 (by decide) ?_
  refine x_ldcS (n := 9) 9 srX0_39 dX0_init_61 ?_
  have t65 : tg h63 a6 = 106 := by rw [e64]; exact t59
  obtain ⟨w66, hq⟩ := hq
  obtain ⟨g67, hq⟩ := hq
  obtain ⟨i68, hq⟩ := hq
  obtain ⟨h69, e70⟩ : ∃ y, y = tR h63 a6 (Int32.toNatClampNeg 9) (tx G 9) := ⟨_, rfl⟩
  replace hq := hq h69 e70
  refine x_aast 6 30 as_6_30 t65 (Or.inr w66) g67 i68 dX0_init_63 e70 ?_
  refine x_dup dX0_init_64 (rv_cat _) ?_
  refine x_bipush (v := 10) dX0_init_65 (by decide) ?_
  refine x_ldcS (n := 10) 10 srX0_41 dX0_init_67 ?_
  have t71 : tg h69 a6 = 106 := by rw [e70]; exact t65
  obtain ⟨w72, hq⟩ := hq
  obtain ⟨g73, hq⟩ := hq
  obtain ⟨i74, hq⟩ := hq
  obtain ⟨h75, e76⟩ : ∃ y, y = tR h69 a6 (Int32.toNatClampNeg 10) (tx G 10) := ⟨_, rfl⟩
  replace hq := hq h75 e76
  refine x_aast 6 30 as_6_30 t71 (Or.inr w72) g73 i74 dX0_init_69 e76 ?_
  refine x_dup dX0_init_70 (rv_cat _) ?_
  refine x_bipush (v := 11) dX0_init_71 (by decide) ?_
  refine x_ldcS (n := 11) 11 srX0_43 dX0_init_73 ?_
  have t77 : tg h75 a6 = 106 := by rw [e76]; exact t71
  obtain ⟨w78, hq⟩ := hq
  obtain ⟨g79, hq⟩ := hq
  obtain ⟨i80, hq⟩ := hq
  obtain ⟨h81, e82⟩ : ∃ y, y = tR h75 a6 (Int32.toNatClampNeg 11) (tx G 11) := ⟨_, rfl⟩
  replace hq := hq h81 e82
  refine x_aast 6 30 as_6_30 t77 (Or.inr w78) g79 i80 dX0_init_75 e82 ?_
  refine x_dup dX0_init_76 (rv_cat _) ?_
  refine x_bipush (v := 12) dX0_init_77 (by decide) ?_
  refine x_ldcS (n := 12) 12 srX0_45 dX0_init_79 ?_
  have t83 : tg h81 a6 = 106 := by rw [e82]; exact t77
  obtain ⟨w84, hq⟩ := hq
  obtain ⟨g85, hq⟩ := hq
  obtain ⟨i86, hq⟩ := hq
  obtain ⟨h87, e88⟩ : ∃ y, y = tR h81 a6 (Int32.toNatClampNeg 12) (tx G 12) := ⟨_, rfl⟩
  replace hq := hq h87 e88
  refine x_aast 6 30 as_6_30 t83 (Or.inr w84) g85 i86 dX0_init_81 e88 ?_
  refine x_dup dX0_init_82 (rv_cat _) ?_
  refine x_bipush (v := 13) dX0_init_83 (by decide) ?_
  refine x_ldcS (n := 13) 13 srX0_47 dX0_init_85 ?_
  have t89 : tg h87 a6 = 106 := by rw [e88]; exact t83
  obtain ⟨w90, hq⟩ := hq
  obtain ⟨g91, hq⟩ := hq
  obtain ⟨i92, hq⟩ := hq
  obtain ⟨h93, e94⟩ : ∃ y, y = tR h87 a6 (Int32.toNatClampNeg 13) (tx G 13) := ⟨_, rfl⟩
  replace hq := hq h93 e94
  refine x_aast 6 30 as_6_30 t89 (Or.inr w90) g91 i92 dX0_init_87 e94 ?_
  refine x_dup dX0_init_88 (rv_cat _) ?_
  refine x_bipush (v := 14) dX0_init_89 (by decide) ?_
  refine x_ldcS (n := 14) 14 srX0_49 dX0_init_91 ?_
  have t95 : tg h93 a6 = 106 := by rw [e94]; exact t89
  obtain ⟨w96, hq⟩ := hq
  obtain ⟨g97, hq⟩ := hq
  obtain ⟨i98, hq⟩ := hq
  obtain ⟨h99, e100⟩ : ∃ y, y = tR h93 a6 (Int32.toNatClampNeg 14) (tx G 14) := ⟨_, rfl⟩
  replace hq := hq h99 e100
  refine x_aast 6 30 as_6_30 t95 (Or.inr w96) g97 i98 dX0_init_93 e100 ?_
  refine x_dup dX0_init_94 (rv_cat _) ?_
  refine x_bipush (v := 15) dX0_init_95 (by decide) ?_
  refine x_ldcS (n := 15) 15 srX0_51 dX0_init_97 ?_
  have t101 : tg h99 a6 = 106 := by rw [e100]; exact t95
  obtain ⟨w102, hq⟩ := hq
  obtain ⟨g103, hq⟩ := hq
  obtain ⟨i104, hq⟩ := hq
  obtain ⟨h105, e106⟩ : ∃ y, y = tR h99 a6 (Int32.toNatClampNeg 15) (tx G 15) := ⟨_, rfl⟩
  replace hq := hq h105 e106
  refine x_aast 6 30 as_6_30 t101 (Or.inr w102) g103 i104 dX0_init_99 e106 ?_
  refine x_dup dX0_init_100 (rv_cat _) ?_
  refine x_bipush (v := 16) dX0_init_101 (by decide) ?_
  refine x_ldcS (n := 16) 16 srX0_53 dX0_init_103 ?_
  have t107 : tg h105 a6 = 106 := by rw [e106]; exact t101
  obtain ⟨w108, hq⟩ := hq
  obtain ⟨g109, hq⟩ := hq
  obtain ⟨i110, hq⟩ := hq
  obtain ⟨h111, e112⟩ : ∃ y, y = tR h105 a6 (Int32.toNatClampNeg 16) (tx G 16) := ⟨_, rfl⟩
  replace hq := hq h111 e112
  refine x_aast 6 30 as_6_30 t107 (Or.inr w108) g109 i110 dX0_init_105 e112 ?_
  refine x_dup dX0_init_106 (rv_cat _) ?_
  refine x_bipush (v := 17) dX0_init_107 (by decide) ?_
  refine x_ldcS (n := 17) 17 srX0_55 dX0_init_109 ?_
  have t113 : tg h111 a6 = 106 := by rw [e112]; exact t107
  obtain ⟨w114, hq⟩ := hq
  obtain ⟨g115, hq⟩ := hq
  obtain ⟨i116, hq⟩ := hq
  obtain ⟨h117, e118⟩ : ∃ y, y = tR h111 a6 (Int32.toNatClampNeg 17) (tx G 17) := ⟨_, rfl⟩
  replace hq := hq h117 e118
  refine x_aast 6 30 as_6_30 t113 (Or.inr w114) g115 i116 dX0_init_111 e118 ?_
  refine x_dup dX0_init_112 (rv_cat _) ?_
  refine x_bipush (v := 18) dX0_init_113 (by decide) ?_
  refine x_ldcS (n := 18) 18 srX0_57 dX0_init_115 ?_
  have t119 : tg h117 a6 = 106 := by rw [e118]; exact t113
  obtain ⟨w120, hq⟩ := hq
  obtain ⟨g121, hq⟩ := hq
  obtain ⟨i122, hq⟩ := hq
  obtain ⟨h123, e124⟩ : ∃ y, y = tR h117 a6 (Int32.toNatClampNeg 18) (tx G 18) := ⟨_, rfl⟩
  replace hq := hq h123 e124
  refine x_aast 6 30 as_6_30 t119 (Or.inr w120) g121 i122 dX0_init_117 e124 ?_
  refine x_dup dX0_init_118 (rv_cat _) ?_
  refine x_bipush (v := 19) dX0_init_119 (by decide) ?_
  refine x_ldcS (n := 19) 19 srX0_59 dX0_init_121 ?_
  have t125 : tg h123 a6 = 106 := by rw [e124]; exact t119
  obtain ⟨w126, hq⟩ := hq
  obtain ⟨g127, hq⟩ := hq
  obtain ⟨i128, hq⟩ := hq
  obtain ⟨h129, e130⟩ : ∃ y, y = tR h123 a6 (Int32.toNatClampNeg 19) (tx G 19) := ⟨_, rfl⟩
  replace hq := hq h129 e130
  refine x_aast 6 30 as_6_30 t125 (Or.inr w126) g127 i128 dX0_init_123 e130 ?_
  refine x_dup dX0_init_124 (rv_cat _) ?_
  refine x_bipush (v := 20) dX0_init_125 (by decide) ?_
  refine x_ldcS (n := 20) 20 srX0_61 dX0_init_127 ?_
  have t131 : tg h129 a6 = 106 := by rw [e130]; exact t125
  obtain ⟨w132, hq⟩ := hq
  obtain ⟨g133, hq⟩ := hq
  obtain ⟨i134, hq⟩ := hq
  obtain ⟨h135, e136⟩ : ∃ y, y = tR h129 a6 (Int32.toNatClampNeg 20) (tx G 20) := ⟨_, rfl⟩
  replace hq := hq h135 e136
  refine x_aast 6 30 as_6_30 t131 (Or.inr w132) g133 i134 dX0_init_129 e136 ?_
  refine x_dup dX0_init_130 (rv_cat _) ?_
  refine x_bipush (v := 21) dX0_init_131 (by decide) ?_
  refine x_ldcS (n := 21) 21 srX0_63 dX0_init_133 ?_
  have t137 : tg h135 a6 = 106 := by rw [e136]; exact t131
  obtain ⟨w138, hq⟩ := hq
  obtain ⟨g139, hq⟩ := hq
  obtain ⟨i140, hq⟩ := hq
  obtain ⟨h141, e142⟩ : ∃ y, y = tR h135 a6 (Int32.toNatClampNeg 21) (tx G 21) := ⟨_, rfl⟩
  replace hq := hq h141 e142
  refine x_aast 6 30 as_6_30 t137 (Or.inr w138) g139 i140 dX0_init_135 e142 ?_
  refine x_dup dX0_init_136 (rv_cat _) ?_
  refine x_bipush (v := 22) dX0_init_137 (by decide) ?_
  refine x_ldcS (n := 22) 22 srX0_65 dX0_init_139 ?_
  have t143 : tg h141 a6 = 106 := by rw [e142]; exact t137
  obtain ⟨w144, hq⟩ := hq
  obtain ⟨g145, hq⟩ := hq
  obtain ⟨i146, hq⟩ := hq
  obtain ⟨h147, e148⟩ : ∃ y, y = tR h141 a6 (Int32.toNatClampNeg 22) (tx G 22) := ⟨_, rfl⟩
  replace hq := hq h147 e148
  refine x_aast 6 30 as_6_30 t143 (Or.inr w144) g145 i146 dX0_init_141 e148 ?_
  refine x_dup dX0_init_142 (rv_cat _) ?_
  refine x_bipush (v := 23) dX0_init_143 (by decide) ?_
  refine x_ldcS (n := 23) 23 srX0_67 dX0_init_145 ?_
  have t149 : tg h147 a6 = 106 := by rw [e148]; exact t143
  obtain ⟨w150, hq⟩ := hq
  obtain ⟨g151, hq⟩ := hq
  obtain ⟨i152, hq⟩ := hq
  obtain ⟨h153, e154⟩ : ∃ y, y = tR h147 a6 (Int32.toNatClampNeg 23) (tx G 23) := ⟨_, rfl⟩
  replace hq := hq h153 e154
  refine x_aast 6 30 as_6_30 t149 (Or.inr w150) g151 i152 dX0_init_147 e154 ?_
  refine x_dup dX0_init_148 (rv_cat _) ?_
  refine x_bipush (v := 24) dX0_init_149 (by decide) ?_
  refine x_ldcS (n := 24) 24 srX0_69 dX0_init_151 ?_
  have t155 : tg h153 a6 = 106 := by rw [e154]; exact t149
  obtain ⟨w156, hq⟩ := hq
  obtain ⟨g157, hq⟩ := hq
  obtain ⟨i158, hq⟩ := hq
  obtain ⟨h159, e160⟩ : ∃ y, y = tR h153 a6 (Int32.toNatClampNeg 24) (tx G 24) := ⟨_, rfl⟩
  replace hq := hq h159 e160
  refine x_aast 6 30 as_6_30 t155 (Or.inr w156) g157 i158 dX0_init_153 e160 ?_
  refine x_dup dX0_init_154 (rv_cat _) ?_
  refine x_bipush (v := 25) dX0_init_155 (by decide) ?_
  refine x_ldcS (n := 25) 25 srX0_71 dX0_init_157 ?_
  have t161 : tg h159 a6 = 106 := by rw [e160]; exact t155
  obtain ⟨w162, hq⟩ := hq
  obtain ⟨g163, hq⟩ := hq
  obtain ⟨i164, hq⟩ := hq
  obtain ⟨h165, e166⟩ : ∃ y, y = tR h159 a6 (Int32.toNatClampNeg 25) (tx G 25) := ⟨_, rfl⟩
  replace hq := hq h165 e166
  refine x_aast 6 30 as_6_30 t161 (Or.inr w162) g163 i164 dX0_init_159 e166 ?_
  refine x_dup dX0_init_160 (rv_cat _) ?_
  refine x_bipush (v := 26) dX0_init_161 (by decide) ?_
  refine x_ldcS (n := 26) 26 srX0_73 dX0_init_163 ?_
  have t167 : tg h165 a6 = 106 := by rw [e166]; exact t161
  obtain ⟨w168, hq⟩ := hq
  obtain ⟨g169, hq⟩ := hq
  obtain ⟨i170, hq⟩ := hq
  obtain ⟨h171, e172⟩ : ∃ y, y = tR h165 a6 (Int32.toNatClampNeg 26) (tx G 26) := ⟨_, rfl⟩
  replace hq := hq h171 e172
  refine x_aast 6 30 as_6_30 t167 (Or.inr w168) g169 i170 dX0_init_165 e172 ?_
  refine x_dup dX0_init_166 (rv_cat _) ?_
  refine x_bipush (v := 27) dX0_init_167 (by decide) ?_
  refine x_ldcS (n := 27) 27 srX0_75 dX0_init_169 ?_
  have t173 : tg h171 a6 = 106 := by rw [e172]; exact t167
  obtain ⟨w174, hq⟩ := hq
  obtain ⟨g175, hq⟩ := hq
  obtain ⟨i176, hq⟩ := hq
  obtain ⟨h177, e178⟩ : ∃ y, y = tR h171 a6 (Int32.toNatClampNeg 27) (tx G 27) := ⟨_, rfl⟩
  replace hq := hq h177 e178
  refine x_aast 6 30 as_6_30 t173 (Or.inr w174) g175 i176 dX0_init_171 e178 ?_
  refine x_dup dX0_init_172 (rv_cat _) ?_
  refine x_bipush (v := 28) dX0_init_173 (by decide) ?_
  refine x_ldcS (n := 28) 28 srX0_77 dX0_init_175 ?_
  have t179 : tg h177 a6 = 106 := by rw [e178]; exact t173
  obtain ⟨w180, hq⟩ := hq
  obtain ⟨g181, hq⟩ := hq
  obtain ⟨i182, hq⟩ := hq
  obtain ⟨h183, e184⟩ : ∃ y, y = tR h177 a6 (Int32.toNatClampNeg 28) (tx G 28) := ⟨_, rfl⟩
  replace hq := hq h183 e184
  refine x_aast 6 30 as_6_30 t179 (Or.inr w180) g181 i182 dX0_init_177 e184 ?_
  refine x_dup dX0_init_178 (rv_cat _) ?_
  refine x_bipush (v := 29) dX0_init_179 (by decide) ?_
  refine x_ldcS (n := 29) 29 srX0_79 dX0_init_181 ?_
  have t185 : tg h183 a6 = 106 := by rw [e184]; exact t179
  obtain ⟨w186, hq⟩ := hq
  obtain ⟨g187, hq⟩ := hq
  obtain ⟨i188, hq⟩ := hq
  obtain ⟨h189, e190⟩ : ∃ y, y = tR h183 a6 (Int32.toNatClampNeg 29) (tx G 29) := ⟨_, rfl⟩
  replace hq := hq h189 e190
  refine x_aast 6 30 as_6_30 t185 (Or.inr w186) g187 i188 dX0_init_183 e190 ?_
  refine x_dup dX0_init_184 (rv_cat _) ?_
  refine x_bipush (v := 30) dX0_init_185 (by decide) ?_
  refine x_ldcS (n := 30) 30 srX0_81 dX0_init_187 ?_
  have t191 : tg h189 a6 = 106 := by rw [e190]; exact t185
  obtain ⟨w192, hq⟩ := hq
  obtain ⟨g193, hq⟩ := hq
  obtain ⟨i194, hq⟩ := hq
  obtain ⟨h195, e196⟩ : ∃ y, y = tR h189 a6 (Int32.toNatClampNeg 30) (tx G 30) := ⟨_, rfl⟩
  replace hq := hq h195 e196
  refine x_aast 6 30 as_6_30 t191 (Or.inr w192) g193 i194 dX0_init_189 e196 ?_
  refine x_dup dX0_init_190 (rv_cat _) ?_
  refine x_bipush (v := 31) dX0_init_191 (by decide) ?_
  refine x_ldcS (n := 31) 31 srX0_83 dX0_init_193 ?_
  have t197 : tg h195 a6 = 106 := by rw [e196]; exact t191
  obtain ⟨w198, hq⟩ := hq
  obtain ⟨g199, hq⟩ := hq
  obtain ⟨i200, hq⟩ := hq
  obtain ⟨h201, e202⟩ : ∃ y, y = tR h195 a6 (Int32.toNatClampNeg 31) (tx G 31) := ⟨_, rfl⟩
  replace hq := hq h201 e202
  refine x_aast 6 30 as_6_30 t197 (Or.inr w198) g199 i200 dX0_init_195 e202 ?_
  refine x_dup dX0_init_196 (rv_cat _) ?_
  refine x_bipush (v := 32) dX0_init_197 (by decide) ?_
  refine x_ldcS (n := 32) 32 srX0_85 dX0_init_199 ?_
  have t203 : tg h201 a6 = 106 := by rw [e202]; exact t197
  obtain ⟨w204, hq⟩ := hq
  obtain ⟨g205, hq⟩ := hq
  obtain ⟨i206, hq⟩ := hq
  obtain ⟨h207, e208⟩ : ∃ y, y = tR h201 a6 (Int32.toNatClampNeg 32) (tx G 32) := ⟨_, rfl⟩
  replace hq := hq h207 e208
  refine x_aast 6 30 as_6_30 t203 (Or.inr w204) g205 i206 dX0_init_201 e208 ?_
  refine x_dup dX0_init_202 (rv_cat _) ?_
  refine x_bipush (v := 33) dX0_init_203 (by decide) ?_
  refine x_ldcS (n := 33) 33 srX0_87 dX0_init_205 ?_
  have t209 : tg h207 a6 = 106 := by rw [e208]; exact t203
  obtain ⟨w210, hq⟩ := hq
  obtain ⟨g211, hq⟩ := hq
  obtain ⟨i212, hq⟩ := hq
  obtain ⟨h213, e214⟩ : ∃ y, y = tR h207 a6 (Int32.toNatClampNeg 33) (tx G 33) := ⟨_, rfl⟩
  replace hq := hq h213 e214
  refine x_aast 6 30 as_6_30 t209 (Or.inr w210) g211 i212 dX0_init_207 e214 ?_
  refine x_dup dX0_init_208 (rv_cat _) ?_
  refine x_bipush (v := 34) dX0_init_209 (by decide) ?_
  refine x_ldcS (n := 34) 34 srX0_89 dX0_init_211 ?_
  have t215 : tg h213 a6 = 106 := by rw [e214]; exact t209
  obtain ⟨w216, hq⟩ := hq
  obtain ⟨g217, hq⟩ := hq
  obtain ⟨i218, hq⟩ := hq
  obtain ⟨h219, e220⟩ : ∃ y, y = tR h213 a6 (Int32.toNatClampNeg 34) (tx G 34) := ⟨_, rfl⟩
  replace hq := hq h219 e220
  refine x_aast 6 30 as_6_30 t215 (Or.inr w216) g217 i218 dX0_init_213 e220 ?_
  have t221 : tg h7 x0 = 1 := by rw [e9]; exact tg_nA_ne e8 f10 g1 (by decide)
  have t222 : tg h15 x0 = 1 := by rw [e16]; exact t221
  have t223 : tg h21 x0 = 1 := by rw [e22]; exact t222
  have t224 : tg h27 x0 = 1 := by rw [e28]; exact t223
  have t225 : tg h33 x0 = 1 := by rw [e34]; exact t224
  have t226 : tg h39 x0 = 1 := by rw [e40]; exact t225
  have t227 : tg h45 x0 = 1 := by rw [e46]; exact t226
  have t228 : tg h51 x0 = 1 := by rw [e52]; exact t227
  have t229 : tg h57 x0 = 1 := by rw [e58]; exact t228
  have t230 : tg h63 x0 = 1 := by rw [e64]; exact t229
  have t231 : tg h69 x0 = 1 := by rw [e70]; exact t230
  have t232 : tg h75 x0 = 1 := by rw [e76]; exact t231
  have t233 : tg h81 x0 = 1 := by rw [e82]; exact t232
  have t234 : tg h87 x0 = 1 := by rw [e88]; exact t233
  have t235 : tg h93 x0 = 1 := by rw [e94]; exact t234
  have t236 : tg h99 x0 = 1 := by rw [e100]; exact t235
  have t237 : tg h105 x0 = 1 := by rw [e106]; exact t236
  have t238 : tg h111 x0 = 1 := by rw [e112]; exact t237
  have t239 : tg h117 x0 = 1 := by rw [e118]; exact t238
  have t240 : tg h123 x0 = 1 := by rw [e124]; exact t239
  have t241 : tg h129 x0 = 1 := by rw [e130]; exact t240
  have t242 : tg h135 x0 = 1 := by rw [e136]; exact t241
  have t243 : tg h141 x0 = 1 := by rw [e142]; exact t242
  have t244 : tg h147 x0 = 1 := by rw [e148]; exact t243
  have t245 : tg h153 x0 = 1 := by rw [e154]; exact t244
  have t246 : tg h159 x0 = 1 := by rw [e160]; exact t245
  have t247 : tg h165 x0 = 1 := by rw [e166]; exact t246
  have t248 : tg h171 x0 = 1 := by rw [e172]; exact t247
  have t249 : tg h177 x0 = 1 := by rw [e178]; exact t248
  have t250 : tg h183 x0 = 1 := by rw [e184]; exact t249
  have t251 : tg h189 x0 = 1 := by rw [e190]; exact t250
  have t252 : tg h195 x0 = 1 := by rw [e196]; exact t251
  have t253 : tg h201 x0 = 1 := by rw [e202]; exact t252
  have t254 : tg h207 x0 = 1 := by rw [e208]; exact t253
  have t255 : tg h213 x0 = 1 := by rw [e214]; exact t254
  have t256 : tg h219 x0 = 1 := by rw [e220]; exact t255
  obtain ⟨h257, e258⟩ : ∃ y, y = sR h219 x0 0 a6 := ⟨_, rfl⟩
  replace hq := hq h257 e258
  refine x_putFR fdX0_91 owX0_init_0 xty_A dX0_init_214 t256 (Or.inl (by rw [t256]; rfl)) rfl e258 ?_
  refine x_aload_n 0 dX0_init_217 rfl ?_
  refine x_sipush (v := 12000) dX0_init_218 (by decide) ?_
  obtain ⟨g259, g260, hq⟩ := hq
  obtain ⟨a261, e263⟩ : ∃ y, y = nx h257 + 1 := ⟨_, rfl⟩
  obtain ⟨h262, e264⟩ : ∃ y, y = nA h257 103 (Int32.toNatClampNeg 12000) := ⟨_, rfl⟩
  refine x_newa' 3 pk_byte dX0_init_221 (by decide) (by decide) g259 g260 e263 e264 (fun f265 => ?_)
  replace hq := hq a261 h262 e263 e264 f265
  have t266 : tg h262 a261 = 103 := by rw [e264, e263]; exact tg_nA
  have t267 : tg h257 x0 = 1 := by rw [e258]; exact t256
  have t268 : tg h262 x0 = 1 := by rw [e264]; exact tg_nA_ne e263 f265 t267 (by decide)
  obtain ⟨h269, e270⟩ : ∃ y, y = sR h262 x0 1 a261 := ⟨_, rfl⟩
  replace hq := hq h269 e270
  refine x_putFR fdX0_95 owX0_init_1 xty_A dX0_init_223 t268 (Or.inl (by rw [t268]; rfl)) rfl e270 ?_
  refine x_aload_n 0 dX0_init_226 rfl ?_
  refine x_sipush (v := 12000) dX0_init_227 (by decide) ?_
  obtain ⟨g271, g272, hq⟩ := hq
  obtain ⟨a273, e275⟩ : ∃ y, y = nx h269 + 1 := ⟨_, rfl⟩
  obtain ⟨h274, e276⟩ : ∃ y, y = nA h269 103 (Int32.toNatClampNeg 12000) := ⟨_, rfl⟩
  refine x_newa' 3 pk_byte dX0_init_230 (by decide) (by decide) g271 g272 e275 e276 (fun f277 => ?_)
  replace hq := hq a273 h274 e275 e276 f277
  have t278 : tg h274 a273 = 103 := by rw [e276, e275]; exact tg_nA
  have t279 : tg h269 x0 = 1 := by rw [e270]; exact t268
  have t280 : tg h274 x0 = 1 := by rw [e276]; exact tg_nA_ne e275 f277 t279 (by decide)
  obtain ⟨h281, e282⟩ : ∃ y, y = sR h274 x0 2 a273 := ⟨_, rfl⟩
  replace hq := hq h281 e282
  refine x_putFR fdX0_99 owX0_init_2 xty_A dX0_init_232 t280 (Or.inl (by rw [t280]; rfl)) rfl e282 ?_
  refine x_aload_n 0 dX0_init_235 rfl ?_
  refine x_sipush (v := 24000) dX0_init_236 (by decide) ?_
  obtain ⟨g283, g284, hq⟩ := hq
  obtain ⟨a285, e287⟩ : ∃ y, y = nx h281 + 1 := ⟨_, rfl⟩
  obtain ⟨h286, e288⟩ : ∃ y, y = nA h281 103 (Int32.toNatClampNeg 24000) := ⟨_, rfl⟩
  refine x_newa' 3 pk_byte dX0_init_239 (by decide) (by decide) g283 g284 e287 e288 (fun f289 => ?_)
  replace hq := hq a285 h286 e287 e288 f289
  have t290 : tg h286 a285 = 103 := by rw [e288, e287]; exact tg_nA
  have t291 : tg h281 x0 = 1 := by rw [e282]; exact t280
  have t292 : tg h286 x0 = 1 := by rw [e288]; exact tg_nA_ne e287 f289 t291 (by decide)
  obtain ⟨h293, e294⟩ : ∃ y, y = sR h286 x0 5 a285 := ⟨_, rfl⟩
  replace hq := hq h293 e294
  refine x_putFR fdX0_102 owX0_init_5 xty_A dX0_init_241 t292 (Or.inl (by rw [t292]; rfl)) rfl e294 ?_
  refine x_aload_n 0 dX0_init_244 rfl ?_
  refine x_bipush (v := 8) dX0_init_245 (by decide) ?_
  obtain ⟨g295, g296, hq⟩ := hq
  obtain ⟨a297, e299⟩ : ∃ y, y = nx h293 + 1 := ⟨_, rfl⟩
  obtain ⟨h298, e300⟩ : ∃ y, y = nA h293 100 (Int32.toNatClampNeg 8) := ⟨_, rfl⟩
  refine x_newa' 0 pk_int dX0_init_247 (by decide) (by decide) g295 g296 e299 e300 (fun f301 => ?_)
  replace hq := hq a297 h298 e299 e300 f301
  have t302 : tg h298 a297 = 100 := by rw [e300, e299]; exact tg_nA
  have t303 : tg h293 x0 = 1 := by rw [e294]; exact t292
  have t304 : tg h298 x0 = 1 := by rw [e300]; exact tg_nA_ne e299 f301 t303 (by decide)
  obtain ⟨h305, e306⟩ : ∃ y, y = sR h298 x0 6 a297 := ⟨_, rfl⟩
  replace hq := hq h305 e306
  refine x_putFR fdX0_105 owX0_init_6 xty_A dX0_init_249 t304 (Or.inl (by rw [t304]; rfl)) rfl e306 ?_
  refine x_aload_n 0 dX0_init_252 rfl ?_
  obtain ⟨g307, g308, hq⟩ := hq
  obtain ⟨a309, e311⟩ : ∃ y, y = nx h305 + 1 := ⟨_, rfl⟩
  obtain ⟨h310, e312⟩ : ∃ y, y = nO h305 2 2 := ⟨_, rfl⟩
  refine x_new' cdX0_109 dX0_init_253 g307 g308 e311 e312 (fun f313 => ?_)
  replace hq := hq a309 h310 e311 e312 f313
  have t314 : tg h310 a309 = 2 := by rw [e312, e311]; exact tg_nO
  refine x_dup dX0_init_256 (rv_cat _) ?_
  obtain ⟨g315, g316, hq⟩ := hq
  refine x_callIN (Yc := YX1_init) (as := []) (st := [rv a309, rv x0]) (List.mem_filter.mpr ⟨q479, rfl⟩) miX1_init (by rw [t314]; decide) rfl dX0_init_257 (xle (xal1 (rv_cat _) xal0) (by decide)) (xfr g315) (xlo (xsw1 (rv_cat _) (xsw1 (rv_cat _) xsw0)) (by decide) g316) (xKv hq (fun h317 hq e319 => ?_) (fun _ _ q _ => q))
  replace hq := hq e319
  have t320 : tg h305 x0 = 1 := by rw [e306]; exact t304
  have t321 : tg h310 x0 = 1 := by rw [e312]; exact tg_nO_ne e311 f313 t320 (by decide)
  have t322 : tg h317 x0 = 1 := e319.tg t321 (by decide)
  obtain ⟨h323, e324⟩ : ∃ y, y = sR h317 x0 7 a309 := ⟨_, rfl⟩
  replace hq := hq h323 e324
  refine x_putFR fdX0_112 owX0_init_7 xty_O dX0_init_260 t322 (Or.inl (by rw [t322]; rfl)) rfl e324 ?_
  refine x_aload_n 0 dX0_init_263 rfl ?_
  obtain ⟨g325, g326, hq⟩ := hq
  obtain ⟨a327, e329⟩ : ∃ y, y = nx h323 + 1 := ⟨_, rfl⟩
  obtain ⟨h328, e330⟩ : ∃ y, y = nO h323 3 17 := ⟨_, rfl⟩
  refine x_new' cdX0_116 dX0_init_264 g325 g326 e329 e330 (fun f331 => ?_)
  replace hq := hq a327 h328 e329 e330 f331
  have t332 : tg h328 a327 = 3 := by rw [e330, e329]; exact tg_nO
  refine x_dup dX0_init_267 (rv_cat _) ?_
  obtain ⟨g333, g334, hq⟩ := hq
  refine x_callIN (Yc := YX2_init) (as := []) (st := [rv a327, rv x0]) (List.mem_filter.mpr ⟨q496, rfl⟩) miX2_init (by rw [t332]; decide) rfl dX0_init_268 (xle (xal1 (rv_cat _) xal0) (by decide)) (xfr g333) (xlo (xsw1 (rv_cat _) (xsw1 (rv_cat _) xsw0)) (by decide) g334) (xKv hq (fun h335 hq e337 => ?_) (fun _ _ q _ => q))
  replace hq := hq e337
  have t338 : tg h323 x0 = 1 := by rw [e324]; exact t322
  have t339 : tg h328 x0 = 1 := by rw [e330]; exact tg_nO_ne e329 f331 t338 (by decide)
  have t340 : tg h335 x0 = 1 := e337.tg t339 (by decide)
  obtain ⟨h341, e342⟩ : ∃ y, y = sR h335 x0 8 a327 := ⟨_, rfl⟩
  replace hq := hq h341 e342
  refine x_putFR fdX0_119 owX0_init_8 xty_O dX0_init_271 t340 (Or.inl (by rw [t340]; rfl)) rfl e342 ?_
  refine x_aload_n 0 dX0_init_274 rfl ?_
  obtain ⟨g343, g344, hq⟩ := hq
  obtain ⟨a345, e347⟩ : ∃ y, y = nx h341 + 1 := ⟨_, rfl⟩
  obtain ⟨h346, e348⟩ : ∃ y, y = nO h341 4 5 := ⟨_, rfl⟩
  refine x_new' cdX0_123 dX0_init_275 g343 g344 e347 e348 (fun f349 => ?_)
  replace hq := hq a345 h346 e347 e348 f349
  have t350 : tg h346 a345 = 4 := by rw [e348, e347]; exact tg_nO
  refine x_dup dX0_init_278 (rv_cat _) ?_
  obtain ⟨g351, g352, hq⟩ := hq
  obtain ⟨a353, e355⟩ : ∃ y, y = nx h346 + 1 := ⟨_, rfl⟩
  obtain ⟨h354, e356⟩ : ∃ y, y = nO h346 5 6 := ⟨_, rfl⟩
  refine x_new' cdX0_125 dX0_init_279 g351 g352 e355 e356 (fun f357 => ?_)
  replace hq := hq a353 h354 e355 e356 f357
  have t358 : tg h354 a353 = 5 := by rw [e356, e355]; exact tg_nO
  refine x_dup dX0_init_282 (rv_cat _) ?_
  refine x_aload_n 0 dX0_init_283 rfl ?_
  have t359 : tg h341 x0 = 1 := by rw [e342]; exact t340
  have t360 : tg h346 x0 = 1 := by rw [e348]; exact tg_nO_ne e347 f349 t359 (by decide)
  have t361 : tg h354 x0 = 1 := by rw [e356]; exact tg_nO_ne e355 f357 t360 (by decide)
  refine x_get (v := rv (fR h354 x0 2)) fdX0_99 dX0_init_284 t361 rfl ?_
  refine x_aload_n 0 dX0_init_287 rfl ?_
  refine x_get (v := rv (fR h354 x0 0)) fdX0_91 dX0_init_288 t361 rfl ?_
  refine x_aload_n 0 dX0_init_291 rfl ?_
  refine x_get (v := rv (fR h354 x0 7)) fdX0_112 dX0_init_292 t361 rfl ?_
  obtain ⟨g362, g363, hq⟩ := hq
  refine x_callI (Yc := YX4_init) (as := [rv (fR h354 x0 2), rv (fR h354 x0 0), rv (fR h354 x0 7)]) (st := [rv a353, rv a345, rv a345, rv x0]) q605 miX4_init (by rw [t358]; decide) rfl dX0_init_295 (xle (xal1 (rv_cat _) (xal1 (rv_cat _) (xal1 (rv_cat _) (xal1 (rv_cat _) xal0)))) (by decide)) (xfr g362) (xlo (xsw1 (rv_cat _) (xsw1 (rv_cat _) (xsw1 (rv_cat _) (xsw1 (rv_cat _) xsw0)))) (by decide) g363) (xKv hq (fun h364 hq e366 => ?_) (fun _ _ q _ => q))
  replace hq := hq e366
  refine x_aload_n 0 dX0_init_298 rfl ?_
  have t367 : tg h364 x0 = 1 := e366.tg t361 (by decide)
  refine x_get (v := rv (fR h364 x0 7)) fdX0_112 dX0_init_299 t367 rfl ?_
  have t368 : tg h354 a345 = 4 := by rw [e356]; exact tg_nO_ne e355 f357 t350 (by decide)
  have t369 : tg h364 a345 = 4 := e366.tg t368 (by decide)
  obtain ⟨g370, g371, hq⟩ := hq
  refine x_callI (Yc := YX3_init) (as := [rv a353, rv (fR h364 x0 7)]) (st := [rv a345, rv x0]) q660 miX3_init (by rw [t369]; decide) rfl dX0_init_302 (xle (xal1 (rv_cat _) (xal1 (rv_cat _) (xal1 (rv_cat _) xal0))) (by decide)) (xfr g370) (xlo (xsw1 (rv_cat _) (xsw1 (rv_cat _) xsw0)) (by decide) g371) (xKv hq (fun h372 hq e374 => ?_) (fun _ _ q _ => q))
  replace hq := hq e374
  have t375 : tg h372 x0 = 1 := e374.tg t367 (by decide)
  obtain ⟨h376, e377⟩ : ∃ y, y = sR h372 x0 9 a345 := ⟨_, rfl⟩
  replace hq := hq h376 e377
  refine x_putFR fdX0_133 owX0_init_9 xty_O dX0_init_305 t375 (Or.inl (by rw [t375]; rfl)) rfl e377 ?_
  refine x_aload_n 0 dX0_init_308 rfl ?_
  obtain ⟨g378, g379, hq⟩ := hq
  obtain ⟨a380, e382⟩ : ∃ y, y = nx h376 + 1 := ⟨_, rfl⟩
  obtain ⟨h381, e383⟩ : ∃ y, y = nO h376 6 29 := ⟨_, rfl⟩
  refine x_new' cdX0_137 dX0_init_309 g378 g379 e382 e383 (fun f384 => ?_)
  replace hq := hq a380 h381 e382 e383 f384
  have t385 : tg h381 a380 = 6 := by rw [e383, e382]; exact tg_nO
  refine x_dup dX0_init_312 (rv_cat _) ?_
  refine x_aload_n 0 dX0_init_313 rfl ?_
  have t386 : tg h376 x0 = 1 := by rw [e377]; exact t375
  have t387 : tg h381 x0 = 1 := by rw [e383]; exact tg_nO_ne e382 f384 t386 (by decide)
  refine x_get (v := rv (fR h381 x0 7)) fdX0_112 dX0_init_314 t387 rfl ?_
  refine x_aload_n 0 dX0_init_317 rfl ?_
  refine x_get (v := rv (fR h381 x0 8)) fdX0_119 dX0_init_318 t387 rfl ?_
  obtain ⟨g388, g389, hq⟩ := hq
  refine x_callI (Yc := YX5_init) (as := [rv (fR h381 x0 7), rv (fR h381 x0 8)]) (st := [rv a380, rv x0]) q683 miX5_init (by rw [t385]; decide) rfl dX0_init_321 (xle (xal1 (rv_cat _) (xal1 (rv_cat _) (xal1 (rv_cat _) xal0))) (by decide)) (xfr g388) (xlo (xsw1 (rv_cat _) (xsw1 (rv_cat _) xsw0)) (by decide) g389) (xKv hq (fun h390 hq e392 => ?_) (fun _ _ q _ => q))
  replace hq := hq e392
  have t393 : tg h390 x0 = 1 := e392.tg t387 (by decide)
  obtain ⟨h394, e395⟩ : ∃ y, y = sR h390 x0 10 a380 := ⟨_, rfl⟩
  replace hq := hq h394 e395
  refine x_putFR fdX0_142 owX0_init_10 xty_O dX0_init_324 t393 (Or.inl (by rw [t393]; rfl)) rfl e395 ?_
  refine x_aload_n 0 dX0_init_327 rfl ?_
  obtain ⟨g396, g397, hq⟩ := hq
  obtain ⟨a398, e400⟩ : ∃ y, y = nx h394 + 1 := ⟨_, rfl⟩
  obtain ⟨h399, e401⟩ : ∃ y, y = nO h394 10 31 := ⟨_, rfl⟩
  refine x_new' cdX0_146 dX0_init_328 g396 g397 e400 e401 (fun f402 => ?_)
  replace hq := hq a398 h399 e400 e401 f402
  have t403 : tg h399 a398 = 10 := by rw [e401, e400]; exact tg_nO
  refine x_dup dX0_init_331 (rv_cat _) ?_
  refine x_aload_n 0 dX0_init_332 rfl ?_
  have t404 : tg h394 x0 = 1 := by rw [e395]; exact t393
  have t405 : tg h399 x0 = 1 := by rw [e401]; exact tg_nO_ne e400 f402 t404 (by decide)
  refine x_get (v := rv (fR h399 x0 8)) fdX0_119 dX0_init_333 t405 rfl ?_
  obtain ⟨g406, g407, hq⟩ := hq
  refine x_callI (Yc := YX9_init) (as := [rv (fR h399 x0 8)]) (st := [rv a398, rv x0]) q1198 miX9_init (by rw [t403]; decide) rfl dX0_init_336 (xle (xal1 (rv_cat _) (xal1 (rv_cat _) xal0)) (by decide)) (xfr g406) (xlo (xsw1 (rv_cat _) (xsw1 (rv_cat _) xsw0)) (by decide) g407) (xKv hq (fun h408 hq e410 => ?_) (fun _ _ q _ => q))
  replace hq := hq e410
  have t411 : tg h408 x0 = 1 := e410.tg t405 (by decide)
  obtain ⟨h412, e413⟩ : ∃ y, y = sR h408 x0 11 a398 := ⟨_, rfl⟩
  replace hq := hq h412 e413
  refine x_putFR fdX0_151 owX0_init_11 xty_O dX0_init_339 t411 (Or.inl (by rw [t411]; rfl)) rfl e413 ?_
  refine x_aload_n 0 dX0_init_342 rfl ?_
  refine x_bipush (v := 8) dX0_init_343 (by decide) ?_
  obtain ⟨g414, g415, hq⟩ := hq
  obtain ⟨a416, e418⟩ : ∃ y, y = nx h412 + 1 := ⟨_, rfl⟩
  obtain ⟨h417, e419⟩ : ∃ y, y = nA h412 100 (Int32.toNatClampNeg 8) := ⟨_, rfl⟩
  refine x_newa' 0 pk_int dX0_init_345 (by decide) (by decide) g414 g415 e418 e419 (fun f420 => ?_)
  replace hq := hq a416 h417 e418 e419 f420
  have t421 : tg h417 a416 = 100 := by rw [e419, e418]; exact tg_nA
  have t422 : tg h412 x0 = 1 := by rw [e413]; exact t411
  have t423 : tg h417 x0 = 1 := by rw [e419]; exact tg_nA_ne e418 f420 t422 (by decide)
  obtain ⟨h424, e425⟩ : ∃ y, y = sR h417 x0 13 a416 := ⟨_, rfl⟩
  replace hq := hq h424 e425
  refine x_putFR fdX0_155 owX0_init_13 xty_A dX0_init_347 t423 (Or.inl (by rw [t423]; rfl)) rfl e425 ?_
  refine x_aload_n 0 dX0_init_350 rfl ?_
  refine x_iconst (v := (-1)) dX0_init_351 (by decide) ?_
  have t426 : tg h424 x0 = 1 := by rw [e425]; exact t423
  obtain ⟨h427, e428⟩ : ∃ y, y = sI h424 x0 16 (-1) := ⟨_, rfl⟩
  replace hq := hq h427 e428
  refine x_putI fdX0_158 xty_I1 dX0_init_352 t426 (Or.inl (by rw [t426]; rfl)) xnI rfl e428 ?_
  refine x_aload_n 0 dX0_init_355 rfl ?_
  refine x_iconst (v := (-1)) dX0_init_356 (by decide) ?_
  have t429 : tg h427 x0 = 1 := by rw [e428]; exact t426
  obtain ⟨h430, e431⟩ : ∃ y, y = sI h427 x0 17 (-1) := ⟨_, rfl⟩
  replace hq := hq h430 e431
  refine x_putI fdX0_162 xty_I1 dX0_init_357 t429 (Or.inl (by rw [t429]; rfl)) xnI rfl e431 ?_
  refine x_aload_n 0 dX0_init_360 rfl ?_
  refine x_sipush (v := 24064) dX0_init_361 (by decide) ?_
  obtain ⟨g432, g433, hq⟩ := hq
  obtain ⟨a434, e436⟩ : ∃ y, y = nx h430 + 1 := ⟨_, rfl⟩
  obtain ⟨h435, e437⟩ : ∃ y, y = nA h430 103 (Int32.toNatClampNeg 24064) := ⟨_, rfl⟩
  refine x_newa' 3 pk_byte dX0_init_364 (by decide) (by decide) g432 g433 e436 e437 (fun f438 => ?_)
  replace hq := hq a434 h435 e436 e437 f438
  have t439 : tg h435 a434 = 103 := by rw [e437, e436]; exact tg_nA
  have t440 : tg h430 x0 = 1 := by rw [e431]; exact t429
  have t441 : tg h435 x0 = 1 := by rw [e437]; exact tg_nA_ne e436 f438 t440 (by decide)
  obtain ⟨h442, e443⟩ : ∃ y, y = sR h435 x0 19 a434 := ⟨_, rfl⟩
  replace hq := hq h442 e443
  refine x_putFR fdX0_165 owX0_init_19 xty_A dX0_init_366 t441 (Or.inl (by rw [t441]; rfl)) rfl e443 ?_
  refine x_aload_n 0 dX0_init_369 rfl ?_
  refine x_bipush (v := 8) dX0_init_370 (by decide) ?_
  obtain ⟨g444, g445, hq⟩ := hq
  obtain ⟨a446, e448⟩ : ∃ y, y = nx h442 + 1 := ⟨_, rfl⟩
  obtain ⟨h447, e449⟩ : ∃ y, y = nA h442 100 (Int32.toNatClampNeg 8) := ⟨_, rfl⟩
  refine x_newa' 0 pk_int dX0_init_372 (by decide) (by decide) g444 g445 e448 e449 (fun f450 => ?_)
  replace hq := hq a446 h447 e448 e449 f450
  have t451 : tg h447 a446 = 100 := by rw [e449, e448]; exact tg_nA
  have t452 : tg h442 x0 = 1 := by rw [e443]; exact t441
  have t453 : tg h447 x0 = 1 := by rw [e449]; exact tg_nA_ne e448 f450 t452 (by decide)
  obtain ⟨h454, e455⟩ : ∃ y, y = sR h447 x0 20 a446 := ⟨_, rfl⟩
  replace hq := hq h454 e455
  refine x_putFR fdX0_168 owX0_init_20 xty_A dX0_init_374 t453 (Or.inl (by rw [t453]; rfl)) rfl e455 ?_
  refine x_aload_n 0 dX0_init_377 rfl ?_
  have t456 : tg h454 x0 = 1 := by rw [e455]; exact t453
  refine x_get (v := rv (fR h454 x0 7)) fdX0_112 dX0_init_378 t456 rfl ?_
  refine x_iconst (v := (-1)) dX0_init_381 (by decide) ?_
  obtain ⟨g457, hq⟩ := hq
  obtain ⟨h458, e459⟩ : ∃ y, y = sI h454 (fR h454 x0 7) 257 (-1) := ⟨_, rfl⟩
  replace hq := hq h458 e459
  refine x_putNI gfX0_171 xty_I1 dX0_init_382 g457 (Or.inl (by rw [g457]; rfl)) xnI rfl e459 ?_
  exact x_vret rfl dX0_init_385 hq
theorem rX0_init {G : xG} {fr lo : Nat} {x0 : Nat} {h : xH} {Q : Outcome → xH → Prop} (hq : bX0_init G fr lo x0 h Q) : xR G YX0_init fr lo [rv x0] h Q := by
  show xP _ _ _ _ _ (lv_args 0 _) _ _ _
  rw [show lv_args 0 [rv x0] = [(0, rv x0)] from (xla1 (rv_cat _) xla0)]
  exact uX0_init hq
set_option maxRecDepth 100000 in
theorem dX0_feed_0 : decode cX0_feed 0 = .ok (.aload_n 0, 1) := by decide +kernel
set_option maxRecDepth 100000 in
theorem dX0_feed_1 : decode cX0_feed 1 = .ok (.getfield 174, 3) := by decide +kernel
set_option maxRecDepth 100000 in
theorem dX0_feed_4 : decode cX0_feed 4 = .ok (.bipush 20, 2) := by decide +kernel
set_option maxRecDepth 100000 in
theorem dX0_feed_6 : decode cX0_feed 6 = .ok (.iadd, 1) := by decide +kernel
set_option maxRecDepth 100000 in
theorem dX0_feed_7 : decode cX0_feed 7 = .ok (.sipush 12000, 3) := by decide +kernel
set_option maxRecDepth 100000 in
theorem dX0_feed_10 : decode cX0_feed 10 = .ok (.if_icmp .le 5, 3) := by decide +kernel
set_option maxRecDepth 100000 in
theorem dX0_feed_13 : decode cX0_feed 13 = .ok (.iconst 0, 1) := by decide +kernel
set_option maxRecDepth 100000 in
theorem dX0_feed_14 : decode cX0_feed 14 = .ok (.ireturn, 1) := by decide +kernel
set_option maxRecDepth 100000 in
theorem dX0_feed_15 : decode cX0_feed 15 = .ok (.aload_n 0, 1) := by decide +kernel
set_option maxRecDepth 100000 in
theorem dX0_feed_16 : decode cX0_feed 16 = .ok (.iload_n 1, 1) := by decide +kernel
set_option maxRecDepth 100000 in
theorem dX0_feed_17 : decode cX0_feed 17 = .ok (.invokevirtual 177, 3) := by decide +kernel
set_option maxRecDepth 100000 in
theorem dX0_feed_20 : decode cX0_feed 20 = .ok (.aload_n 0, 1) := by decide +kernel
set_option maxRecDepth 100000 in
theorem dX0_feed_21 : decode cX0_feed 21 = .ok (.iload_n 2, 1) := by decide +kernel
set_option maxRecDepth 100000 in
theorem dX0_feed_22 : decode cX0_feed 22 = .ok (.invokevirtual 177, 3) := by decide +kernel
set_option maxRecDepth 100000 in
theorem dX0_feed_25 : decode cX0_feed 25 = .ok (.aload_n 0, 1) := by decide +kernel
set_option maxRecDepth 100000 in
theorem dX0_feed_26 : decode cX0_feed 26 = .ok (.iload_n 3, 1) := by decide +kernel
set_option maxRecDepth 100000 in
theorem dX0_feed_27 : decode cX0_feed 27 = .ok (.invokevirtual 177, 3) := by decide +kernel
set_option maxRecDepth 100000 in
theorem dX0_feed_30 : decode cX0_feed 30 = .ok (.aload_n 0, 1) := by decide +kernel
set_option maxRecDepth 100000 in
theorem dX0_feed_31 : decode cX0_feed 31 = .ok (.iload 4, 2) := by decide +kernel
set_option maxRecDepth 100000 in
theorem dX0_feed_33 : decode cX0_feed 33 = .ok (.invokevirtual 177, 3) := by decide +kernel
set_option maxRecDepth 100000 in
theorem dX0_feed_36 : decode cX0_feed 36 = .ok (.aload_n 0, 1) := by decide +kernel
set_option maxRecDepth 100000 in
theorem dX0_feed_37 : decode cX0_feed 37 = .ok (.iload 5, 2) := by decide +kernel
set_option maxRecDepth 100000 in
theorem dX0_feed_39 : decode cX0_feed 39 = .ok (.invokevirtual 177, 3) := by decide +kernel
set_option maxRecDepth 100000 in
theorem dX0_feed_42 : decode cX0_feed 42 = .ok (.iconst 1, 1) := by decide +kernel
set_option maxRecDepth 100000 in
theorem dX0_feed_43 : decode cX0_feed 43 = .ok (.ireturn, 1) := by decide +kernel
set_option maxRecDepth 100000 in
def bX0_feed (G : xG) (fr lo : Nat) (x0 : Nat) (x1 : Int32) (x2 : Int32) (x3 : Int32) (x4 : Int32) (x5 : Int32) (h : xH) (Q : Outcome → xH → Prop) : Prop := tg h x0 = 1 ∧ ((((fI h x0 3) + 20) ≤ 12000 → 1 ≤ fr ∧ 14 ≤ lo ∧ xRv G YX0_four (fr - 1) (lo - 14) [rv x0, .int x1] h (fun h5 => xext h h5 → 1 ≤ fr ∧ 14 ≤ lo ∧ xRv G YX0_four (fr - 1) (lo - 14) [rv x0, .int x2] h5 (fun h11 => xext h5 h11 → 1 ≤ fr ∧ 14 ≤ lo ∧ xRv G YX0_four (fr - 1) (lo - 14) [rv x0, .int x3] h11 (fun h17 => xext h11 h17 → 1 ≤ fr ∧ 14 ≤ lo ∧ xRv G YX0_four (fr - 1) (lo - 14) [rv x0, .int x4] h17 (fun h23 => xext h17 h23 → 1 ≤ fr ∧ 14 ≤ lo ∧ xRv G YX0_four (fr - 1) (lo - 14) [rv x0, .int x5] h23 (fun h29 => xext h23 h29 → Q (.returned (some (.int 1))) h29) (fun r h2 => Q (.threw r) h2)) (fun r h2 => Q (.threw r) h2)) (fun r h2 => Q (.threw r) h2)) (fun r h2 => Q (.threw r) h2)) (fun r h2 => Q (.threw r) h2)) ∧ (¬ ((fI h x0 3) + 20) ≤ 12000 → Q (.returned (some (.int 0))) h))
set_option maxRecDepth 100000 in
theorem uX0_feed {G : xG} {fr lo : Nat} {x0 : Nat} {x1 : Int32} {x2 : Int32} {x3 : Int32} {x4 : Int32} {x5 : Int32} {h : xH} {Q : Outcome → xH → Prop} (hq : bX0_feed G fr lo x0 x1 x2 x3 x4 x5 h Q) : xP G YX0_feed fr lo 0 [(0, rv x0), (1, .int x1), (2, .int x2), (3, .int x3), (4, .int x4), (5, .int x5)] [] h Q := by
  unfold bX0_feed at hq
  refine x_aload_n 0 dX0_feed_0 rfl ?_
  obtain ⟨g1, hq⟩ := hq
  refine x_get (v := .int (fI h x0 3)) fdX0_174 dX0_feed_1 g1 rfl ?_
  refine x_bipush (v := 20) dX0_feed_4 (by decide) ?_
  refine x_iadd dX0_feed_6 ?_
  refine x_sipush (v := 12000) dX0_feed_7 (by decide) ?_
  refine x_icmp_le (tgt := 15) dX0_feed_10 (by decide) (fun c2 => ?_) (fun c2 => ?_)
  · replace hq := hq.1 c2
    refine x_aload_n 0 dX0_feed_15 rfl ?_
    refine x_iload_n 1 dX0_feed_16 rfl ?_
    obtain ⟨g3, g4, hq⟩ := hq
    refine x_callV (Yc := YX0_four) (as := [.int x1]) (st := []) q1470 mvX0_four g1 rfl dX0_feed_17 (xle (xal1 (rv_cat _) (xal1 rfl xal0)) (by decide)) (xfr g3) (xlo xsw0 (by decide) g4) (xKv hq (fun h5 hq e7 => ?_) (fun _ _ q _ => q))
    replace hq := hq e7
    refine x_aload_n 0 dX0_feed_20 rfl ?_
    refine x_iload_n 2 dX0_feed_21 rfl ?_
    have t8 : tg h5 x0 = 1 := e7.tg g1 (by decide)
    obtain ⟨g9, g10, hq⟩ := hq
    refine x_callV (Yc := YX0_four) (as := [.int x2]) (st := []) q1470 mvX0_four t8 rfl dX0_feed_22 (xle (xal1 (rv_cat _) (xal1 rfl xal0)) (by decide)) (xfr g9) (xlo xsw0 (by decide) g10) (xKv hq (fun h11 hq e13 => ?_) (fun _ _ q _ => q))
    replace hq := hq e13
    refine x_aload_n 0 dX0_feed_25 rfl ?_
    refine x_iload_n 3 dX0_feed_26 rfl ?_
    have t14 : tg h11 x0 = 1 := e13.tg t8 (by decide)
    obtain ⟨g15, g16, hq⟩ := hq
    refine x_callV (Yc := YX0_four) (as := [.int x3]) (st := []) q1470 mvX0_four t14 rfl dX0_feed_27 (xle (xal1 (rv_cat _) (xal1 rfl xal0)) (by decide)) (xfr g15) (xlo xsw0 (by decide) g16) (xKv hq (fun h17 hq e19 => ?_) (fun _ _ q _ => q))
    replace hq := hq e19
    refine x_aload_n 0 dX0_feed_30 rfl ?_
    refine x_iload 4 dX0_feed_31 rfl ?_
    have t20 : tg h17 x0 = 1 := e19.tg t14 (by decide)
    obtain ⟨g21, g22, hq⟩ := hq
    refine x_callV (Yc := YX0_four) (as := [.int x4]) (st := []) q1470 mvX0_four t20 rfl dX0_feed_33 (xle (xal1 (rv_cat _) (xal1 rfl xal0)) (by decide)) (xfr g21) (xlo xsw0 (by decide) g22) (xKv hq (fun h23 hq e25 => ?_) (fun _ _ q _ => q))
    replace hq := hq e25
    refine x_aload_n 0 dX0_feed_36 rfl ?_
    refine x_iload 5 dX0_feed_37 rfl ?_
    have t26 : tg h23 x0 = 1 := e25.tg t20 (by decide)
    obtain ⟨g27, g28, hq⟩ := hq
    refine x_callV (Yc := YX0_four) (as := [.int x5]) (st := []) q1470 mvX0_four t26 rfl dX0_feed_39 (xle (xal1 (rv_cat _) (xal1 rfl xal0)) (by decide)) (xfr g27) (xlo xsw0 (by decide) g28) (xKv hq (fun h29 hq e31 => ?_) (fun _ _ q _ => q))
    replace hq := hq e31
    refine x_iconst (v := 1) dX0_feed_42 (by decide) ?_
    exact x_iret rfl rfl dX0_feed_43 hq
  · replace hq := hq.2 c2
    refine x_iconst (v := 0) dX0_feed_13 (by decide) ?_
    exact x_iret rfl rfl dX0_feed_14 hq
theorem rX0_feed {G : xG} {fr lo : Nat} {x0 : Nat} {x1 : Int32} {x2 : Int32} {x3 : Int32} {x4 : Int32} {x5 : Int32} {h : xH} {Q : Outcome → xH → Prop} (hq : bX0_feed G fr lo x0 x1 x2 x3 x4 x5 h Q) : xR G YX0_feed fr lo [rv x0, .int x1, .int x2, .int x3, .int x4, .int x5] h Q := by
  show xP _ _ _ _ _ (lv_args 0 _) _ _ _
  rw [show lv_args 0 [rv x0, .int x1, .int x2, .int x3, .int x4, .int x5] = [(0, rv x0), (1, .int x1), (2, .int x2), (3, .int x3), (4, .int x4), (5, .int x5)] from (xla1 (rv_cat _) (xla1 rfl (xla1 rfl (xla1 rfl (xla1 rfl (xla1 rfl xla0))))))]
  exact uX0_feed hq
set_option maxRecDepth 100000 in
theorem dX0_four_0 : decode cX0_four 0 = .ok (.bipush 24, 2) := by decide +kernel
set_option maxRecDepth 100000 in
theorem dX0_four_2 : decode cX0_four 2 = .ok (.istore_n 2, 1) := by decide +kernel
set_option maxRecDepth 100000 in
theorem dX0_four_3 : decode cX0_four 3 = .ok (.iload_n 2, 1) := by decide +kernel
set_option maxRecDepth 100000 in
theorem dX0_four_4 : decode cX0_four 4 = .ok (.ifCond .lt 32, 3) := by decide +kernel
set_option maxRecDepth 100000 in
theorem dX0_four_7 : decode cX0_four 7 = .ok (.aload_n 0, 1) := by decide +kernel
set_option maxRecDepth 100000 in
theorem dX0_four_8 : decode cX0_four 8 = .ok (.getfield 95, 3) := by decide +kernel
set_option maxRecDepth 100000 in
theorem dX0_four_11 : decode cX0_four 11 = .ok (.aload_n 0, 1) := by decide +kernel
set_option maxRecDepth 100000 in
theorem dX0_four_12 : decode cX0_four 12 = .ok (.getfield 174, 3) := by decide +kernel
set_option maxRecDepth 100000 in
theorem dX0_four_15 : decode cX0_four 15 = .ok (.iload_n 1, 1) := by decide +kernel
set_option maxRecDepth 100000 in
theorem dX0_four_16 : decode cX0_four 16 = .ok (.iload_n 2, 1) := by decide +kernel
set_option maxRecDepth 100000 in
theorem dX0_four_17 : decode cX0_four 17 = .ok (.ishr, 1) := by decide +kernel
set_option maxRecDepth 100000 in
theorem dX0_four_18 : decode cX0_four 18 = .ok (.i2b, 1) := by decide +kernel
set_option maxRecDepth 100000 in
theorem dX0_four_19 : decode cX0_four 19 = .ok (.bastore, 1) := by decide +kernel
set_option maxRecDepth 100000 in
theorem dX0_four_20 : decode cX0_four 20 = .ok (.aload_n 0, 1) := by decide +kernel
set_option maxRecDepth 100000 in
theorem dX0_four_21 : decode cX0_four 21 = .ok (.dup, 1) := by decide +kernel
set_option maxRecDepth 100000 in
theorem dX0_four_22 : decode cX0_four 22 = .ok (.getfield 174, 3) := by decide +kernel
set_option maxRecDepth 100000 in
theorem dX0_four_25 : decode cX0_four 25 = .ok (.iconst 1, 1) := by decide +kernel
set_option maxRecDepth 100000 in
theorem dX0_four_26 : decode cX0_four 26 = .ok (.iadd, 1) := by decide +kernel
set_option maxRecDepth 100000 in
theorem dX0_four_27 : decode cX0_four 27 = .ok (.putfield 174, 3) := by decide +kernel
set_option maxRecDepth 100000 in
theorem dX0_four_30 : decode cX0_four 30 = .ok (.iinc 2 (-8), 3) := by decide +kernel
set_option maxRecDepth 100000 in
theorem dX0_four_33 : decode cX0_four 33 = .ok (.goto (-30), 3) := by decide +kernel
set_option maxRecDepth 100000 in
theorem dX0_four_36 : decode cX0_four 36 = .ok (.return_, 1) := by decide +kernel
def lX0_four_3 (G : xG) (fr lo : Nat) (x0 : Nat) (x1 : Int32) (x2 : Int32) (h : xH) (Q : Outcome → xH → Prop) : Prop := xP G YX0_four fr lo 3 [(0, rv x0), (1, .int x1), (2, .int x2)] [] h Q
set_option maxRecDepth 100000 in
def bX0_four_3 (G : xG) (fr lo : Nat) (x0 : Nat) (x1 : Int32) (x2 : Int32) (h : xH) (Q : Outcome → xH → Prop) : Prop := ((x2 < 0 → Q (.returned none) h) ∧ (¬ x2 < 0 → tg h x0 = 1 ∧ tg h (fR h x0 1) = 103 ∧ xGB G < (fR h x0 1) ∧ vp_in (fI h x0 3) (ln h (fR h x0 1)) ∧ (∀ h6 : xH, h6 = tI h (fR h x0 1) (Int32.toNatClampNeg (fI h x0 3)) (vp_nar .byte ((Int32.toInt8 (x1 >>> (x2 &&& 31))).toInt32)) → (∀ h9 : xH, h9 = sI h6 x0 3 ((fI h6 x0 3) + 1) → lX0_four_3 G fr lo x0 x1 (x2 + (-8)) h9 Q))))
set_option maxRecDepth 100000 in
theorem uX0_four_3 {G : xG} {fr lo : Nat} {x0 : Nat} {x1 : Int32} {x2 : Int32} {h : xH} {Q : Outcome → xH → Prop} (hq : bX0_four_3 G fr lo x0 x1 x2 h Q) : xP G YX0_four fr lo 3 [(0, rv x0), (1, .int x1), (2, .int x2)] [] h Q := by
  unfold bX0_four_3 at hq
  refine x_iload_n 2 dX0_four_3 rfl ?_
  refine x_if_lt (tgt := 36) dX0_four_4 (by decide) (fun c1 => ?_) (fun c1 => ?_)
  · replace hq := hq.1 c1
    exact x_vret rfl dX0_four_36 hq
  · replace hq := hq.2 c1
    refine x_aload_n 0 dX0_four_7 rfl ?_
    obtain ⟨g2, hq⟩ := hq
    refine x_get (v := rv (fR h x0 1)) fdX0_95 dX0_four_8 g2 rfl ?_
    refine x_aload_n 0 dX0_four_11 rfl ?_
    refine x_get (v := .int (fI h x0 3)) fdX0_174 dX0_four_12 g2 rfl ?_
    refine x_iload_n 1 dX0_four_15 rfl ?_
    refine x_iload_n 2 dX0_four_16 rfl ?_
    refine x_ishr dX0_four_17 ?_
    refine x_i2b dX0_four_18 ?_
    obtain ⟨g3, hq⟩ := hq
    obtain ⟨w4, hq⟩ := hq
    obtain ⟨i5, hq⟩ := hq
    obtain ⟨h6, e7⟩ : ∃ y, y = tI h (fR h x0 1) (Int32.toNatClampNeg (fI h x0 3)) (vp_nar .byte ((Int32.toInt8 (x1 >>> (x2 &&& 31))).toInt32)) := ⟨_, rfl⟩
    replace hq := hq h6 e7
    refine x_bast' g3 (Or.inr w4) i5 dX0_four_19 e7 ?_
    refine x_aload_n 0 dX0_four_20 rfl ?_
    refine x_dup dX0_four_21 (rv_cat _) ?_
    have t8 : tg h6 x0 = 1 := by rw [e7]; exact g2
    refine x_get (v := .int (fI h6 x0 3)) fdX0_174 dX0_four_22 t8 rfl ?_
    refine x_iconst (v := 1) dX0_four_25 (by decide) ?_
    refine x_iadd dX0_four_26 ?_
    obtain ⟨h9, e10⟩ : ∃ y, y = sI h6 x0 3 ((fI h6 x0 3) + 1) := ⟨_, rfl⟩
    replace hq := hq h9 e10
    refine x_putI fdX0_174 xty_I1 dX0_four_27 t8 (Or.inl (by rw [t8]; rfl)) xnI rfl e10 ?_
    refine x_iinc (lv' := [(2, .int (x2 + (-8))), (0, rv x0), (1, .int x1)]) 2 dX0_four_30 rfl (by decide) rfl ?_
    refine x_goto (tgt := 3) dX0_four_33 (by decide) ?_
    refine xP.pick (lv' := [(0, rv x0), (1, .int x1), (2, .int (x2 + (-8)))]) [1, 2, 0] rfl ?_
    exact hq
set_option maxRecDepth 100000 in
def bX0_four (G : xG) (fr lo : Nat) (x0 : Nat) (x1 : Int32) (h : xH) (Q : Outcome → xH → Prop) : Prop := lX0_four_3 G fr lo x0 x1 24 h Q
set_option maxRecDepth 100000 in
theorem uX0_four {G : xG} {fr lo : Nat} {x0 : Nat} {x1 : Int32} {h : xH} {Q : Outcome → xH → Prop} (hq : bX0_four G fr lo x0 x1 h Q) : xP G YX0_four fr lo 0 [(0, rv x0), (1, .int x1)] [] h Q := by
  unfold bX0_four at hq
  refine x_bipush (v := 24) dX0_four_0 (by decide) ?_
  refine x_istore_n (lv' := [(2, .int 24), (0, rv x0), (1, .int x1)]) dX0_four_2 (by decide) rfl ?_
  refine xP.pick (lv' := [(0, rv x0), (1, .int x1), (2, .int 24)]) [1, 2, 0] rfl ?_
  exact hq
theorem rX0_four {G : xG} {fr lo : Nat} {x0 : Nat} {x1 : Int32} {h : xH} {Q : Outcome → xH → Prop} (hq : bX0_four G fr lo x0 x1 h Q) : xR G YX0_four fr lo [rv x0, .int x1] h Q := by
  show xP _ _ _ _ _ (lv_args 0 _) _ _ _
  rw [show lv_args 0 [rv x0, .int x1] = [(0, rv x0), (1, .int x1)] from (xla1 (rv_cat _) (xla1 rfl xla0))]
  exact uX0_four hq
set_option maxRecDepth 100000 in
theorem dX0_end_0 : decode cX0_end 0 = .ok (.iload_n 1, 1) := by decide +kernel
set_option maxRecDepth 100000 in
theorem dX0_end_1 : decode cX0_end 1 = .ok (.ifCond .lt 11, 3) := by decide +kernel
set_option maxRecDepth 100000 in
theorem dX0_end_4 : decode cX0_end 4 = .ok (.iload_n 1, 1) := by decide +kernel
set_option maxRecDepth 100000 in
theorem dX0_end_5 : decode cX0_end 5 = .ok (.aload_n 0, 1) := by decide +kernel
set_option maxRecDepth 100000 in
theorem dX0_end_6 : decode cX0_end 6 = .ok (.getfield 174, 3) := by decide +kernel
set_option maxRecDepth 100000 in
theorem dX0_end_9 : decode cX0_end 9 = .ok (.if_icmp .le 5, 3) := by decide +kernel
set_option maxRecDepth 100000 in
theorem dX0_end_12 : decode cX0_end 12 = .ok (.iconst 0, 1) := by decide +kernel
set_option maxRecDepth 100000 in
theorem dX0_end_13 : decode cX0_end 13 = .ok (.ireturn, 1) := by decide +kernel
set_option maxRecDepth 100000 in
theorem dX0_end_14 : decode cX0_end 14 = .ok (.iconst 0, 1) := by decide +kernel
set_option maxRecDepth 100000 in
theorem dX0_end_15 : decode cX0_end 15 = .ok (.istore_n 2, 1) := by decide +kernel
set_option maxRecDepth 100000 in
theorem dX0_end_16 : decode cX0_end 16 = .ok (.iload_n 2, 1) := by decide +kernel
set_option maxRecDepth 100000 in
theorem dX0_end_17 : decode cX0_end 17 = .ok (.iload_n 1, 1) := by decide +kernel
set_option maxRecDepth 100000 in
theorem dX0_end_18 : decode cX0_end 18 = .ok (.if_icmp .ge 21, 3) := by decide +kernel
set_option maxRecDepth 100000 in
theorem dX0_end_21 : decode cX0_end 21 = .ok (.aload_n 0, 1) := by decide +kernel
set_option maxRecDepth 100000 in
theorem dX0_end_22 : decode cX0_end 22 = .ok (.getfield 99, 3) := by decide +kernel
set_option maxRecDepth 100000 in
theorem dX0_end_25 : decode cX0_end 25 = .ok (.iload_n 2, 1) := by decide +kernel
set_option maxRecDepth 100000 in
theorem dX0_end_26 : decode cX0_end 26 = .ok (.aload_n 0, 1) := by decide +kernel
set_option maxRecDepth 100000 in
theorem dX0_end_27 : decode cX0_end 27 = .ok (.getfield 95, 3) := by decide +kernel
set_option maxRecDepth 100000 in
theorem dX0_end_30 : decode cX0_end 30 = .ok (.iload_n 2, 1) := by decide +kernel
set_option maxRecDepth 100000 in
theorem dX0_end_31 : decode cX0_end 31 = .ok (.baload, 1) := by decide +kernel
set_option maxRecDepth 100000 in
theorem dX0_end_32 : decode cX0_end 32 = .ok (.bastore, 1) := by decide +kernel
set_option maxRecDepth 100000 in
theorem dX0_end_33 : decode cX0_end 33 = .ok (.iinc 2 1, 3) := by decide +kernel
set_option maxRecDepth 100000 in
theorem dX0_end_36 : decode cX0_end 36 = .ok (.goto (-20), 3) := by decide +kernel
set_option maxRecDepth 100000 in
theorem dX0_end_39 : decode cX0_end 39 = .ok (.aload_n 0, 1) := by decide +kernel
set_option maxRecDepth 100000 in
theorem dX0_end_40 : decode cX0_end 40 = .ok (.iload_n 1, 1) := by decide +kernel
set_option maxRecDepth 100000 in
theorem dX0_end_41 : decode cX0_end 41 = .ok (.putfield 181, 3) := by decide +kernel
set_option maxRecDepth 100000 in
theorem dX0_end_44 : decode cX0_end 44 = .ok (.aload_n 0, 1) := by decide +kernel
set_option maxRecDepth 100000 in
theorem dX0_end_45 : decode cX0_end 45 = .ok (.iconst 0, 1) := by decide +kernel
set_option maxRecDepth 100000 in
theorem dX0_end_46 : decode cX0_end 46 = .ok (.putfield 174, 3) := by decide +kernel
set_option maxRecDepth 100000 in
theorem dX0_end_49 : decode cX0_end 49 = .ok (.iconst 1, 1) := by decide +kernel
set_option maxRecDepth 100000 in
theorem dX0_end_50 : decode cX0_end 50 = .ok (.ireturn, 1) := by decide +kernel
def lX0_end_16 (G : xG) (fr lo : Nat) (x0 : Nat) (x1 : Int32) (x2 : Int32) (h : xH) (Q : Outcome → xH → Prop) : Prop := xP G YX0_end fr lo 16 [(0, rv x0), (1, .int x1), (2, .int x2)] [] h Q
set_option maxRecDepth 100000 in
def bX0_end_16 (G : xG) (fr lo : Nat) (x0 : Nat) (x1 : Int32) (x2 : Int32) (h : xH) (Q : Outcome → xH → Prop) : Prop := ((x1 ≤ x2 → tg h x0 = 1 ∧ (∀ h3 : xH, h3 = sI h x0 4 x1 → (∀ h6 : xH, h6 = sI h3 x0 3 0 → Q (.returned (some (.int 1))) h6))) ∧ (¬ x1 ≤ x2 → tg h x0 = 1 ∧ tg h (fR h x0 1) = 103 ∧ vp_in x2 (ln h (fR h x0 1)) ∧ tg h (fR h x0 2) = 103 ∧ xGB G < (fR h x0 2) ∧ vp_in x2 (ln h (fR h x0 2)) ∧ (∀ h14 : xH, h14 = tI h (fR h x0 2) (Int32.toNatClampNeg x2) (vp_nar .byte (aI h (fR h x0 1) (Int32.toNatClampNeg x2))) → lX0_end_16 G fr lo x0 x1 (x2 + 1) h14 Q)))
set_option maxRecDepth 100000 in
theorem uX0_end_16 {G : xG} {fr lo : Nat} {x0 : Nat} {x1 : Int32} {x2 : Int32} {h : xH} {Q : Outcome → xH → Prop} (hq : bX0_end_16 G fr lo x0 x1 x2 h Q) : xP G YX0_end fr lo 16 [(0, rv x0), (1, .int x1), (2, .int x2)] [] h Q := by
  unfold bX0_end_16 at hq
  refine x_iload_n 2 dX0_end_16 rfl ?_
  refine x_iload_n 1 dX0_end_17 rfl ?_
  refine x_icmp_ge (tgt := 39) dX0_end_18 (by decide) (fun c1 => ?_) (fun c1 => ?_)
  · replace hq := hq.1 c1
    refine x_aload_n 0 dX0_end_39 rfl ?_
    refine x_iload_n 1 dX0_end_40 rfl ?_
    obtain ⟨g2, hq⟩ := hq
    obtain ⟨h3, e4⟩ : ∃ y, y = sI h x0 4 x1 := ⟨_, rfl⟩
    replace hq := hq h3 e4
    refine x_putI fdX0_181 xty_I1 dX0_end_41 g2 (Or.inl (by rw [g2]; rfl)) xnI rfl e4 ?_
    refine x_aload_n 0 dX0_end_44 rfl ?_
    refine x_iconst (v := 0) dX0_end_45 (by decide) ?_
    have t5 : tg h3 x0 = 1 := by rw [e4]; exact g2
    obtain ⟨h6, e7⟩ : ∃ y, y = sI h3 x0 3 0 := ⟨_, rfl⟩
    replace hq := hq h6 e7
    refine x_putI fdX0_174 xty_I1 dX0_end_46 t5 (Or.inl (by rw [t5]; rfl)) xnI rfl e7 ?_
    refine x_iconst (v := 1) dX0_end_49 (by decide) ?_
    exact x_iret rfl rfl dX0_end_50 hq
  · replace hq := hq.2 c1
    refine x_aload_n 0 dX0_end_21 rfl ?_
    obtain ⟨g8, hq⟩ := hq
    refine x_get (v := rv (fR h x0 2)) fdX0_99 dX0_end_22 g8 rfl ?_
    refine x_iload_n 2 dX0_end_25 rfl ?_
    refine x_aload_n 0 dX0_end_26 rfl ?_
    refine x_get (v := rv (fR h x0 1)) fdX0_95 dX0_end_27 g8 rfl ?_
    refine x_iload_n 2 dX0_end_30 rfl ?_
    obtain ⟨g9, hq⟩ := hq
    obtain ⟨i10, hq⟩ := hq
    refine x_bald g9 i10 dX0_end_31 ?_
    obtain ⟨g11, hq⟩ := hq
    obtain ⟨w12, hq⟩ := hq
    obtain ⟨i13, hq⟩ := hq
    obtain ⟨h14, e15⟩ : ∃ y, y = tI h (fR h x0 2) (Int32.toNatClampNeg x2) (vp_nar .byte (aI h (fR h x0 1) (Int32.toNatClampNeg x2))) := ⟨_, rfl⟩
    replace hq := hq h14 e15
    refine x_bast' g11 (Or.inr w12) i13 dX0_end_32 e15 ?_
    refine x_iinc (lv' := [(2, .int (x2 + 1)), (0, rv x0), (1, .int x1)]) 2 dX0_end_33 rfl (by decide) rfl ?_
    refine x_goto (tgt := 16) dX0_end_36 (by decide) ?_
    refine xP.pick (lv' := [(0, rv x0), (1, .int x1), (2, .int (x2 + 1))]) [1, 2, 0] rfl ?_
    exact hq
set_option maxRecDepth 100000 in
def bX0_end_12 (G : xG) (fr lo : Nat) (h : xH) (Q : Outcome → xH → Prop) : Prop := Q (.returned (some (.int 0))) h
set_option maxRecDepth 100000 in
theorem uX0_end_12 {G : xG} {fr lo : Nat} {h : xH} {Q : Outcome → xH → Prop} (hq : bX0_end_12 G fr lo h Q) : xP G YX0_end fr lo 12 [] [] h Q := by
  unfold bX0_end_12 at hq
  refine x_iconst (v := 0) dX0_end_12 (by decide) ?_
  exact x_iret rfl rfl dX0_end_13 hq
set_option maxRecDepth 100000 in
def bX0_end (G : xG) (fr lo : Nat) (x0 : Nat) (x1 : Int32) (h : xH) (Q : Outcome → xH → Prop) : Prop := ((x1 < 0 → bX0_end_12 G fr lo h Q) ∧ (¬ x1 < 0 → tg h x0 = 1 ∧ ((x1 ≤ (fI h x0 3) → lX0_end_16 G fr lo x0 x1 0 h Q) ∧ (¬ x1 ≤ (fI h x0 3) → bX0_end_12 G fr lo h Q))))
set_option maxRecDepth 100000 in
theorem uX0_end {G : xG} {fr lo : Nat} {x0 : Nat} {x1 : Int32} {h : xH} {Q : Outcome → xH → Prop} (hq : bX0_end G fr lo x0 x1 h Q) : xP G YX0_end fr lo 0 [(0, rv x0), (1, .int x1)] [] h Q := by
  unfold bX0_end at hq
  refine x_iload_n 1 dX0_end_0 rfl ?_
  refine x_if_lt (tgt := 12) dX0_end_1 (by decide) (fun c1 => ?_) (fun c1 => ?_)
  · replace hq := hq.1 c1
    refine xP.pick (lv' := []) [] rfl ?_
    exact uX0_end_12 hq
  · replace hq := hq.2 c1
    refine x_iload_n 1 dX0_end_4 rfl ?_
    refine x_aload_n 0 dX0_end_5 rfl ?_
    obtain ⟨g2, hq⟩ := hq
    refine x_get (v := .int (fI h x0 3)) fdX0_174 dX0_end_6 g2 rfl ?_
    refine x_icmp_le (tgt := 14) dX0_end_9 (by decide) (fun c3 => ?_) (fun c3 => ?_)
    · replace hq := hq.1 c3
      refine x_iconst (v := 0) dX0_end_14 (by decide) ?_
      refine x_istore_n (lv' := [(2, .int 0), (0, rv x0), (1, .int x1)]) dX0_end_15 (by decide) rfl ?_
      refine xP.pick (lv' := [(0, rv x0), (1, .int x1), (2, .int 0)]) [1, 2, 0] rfl ?_
      exact hq
    · replace hq := hq.2 c3
      refine xP.pick (lv' := []) [] rfl ?_
      exact uX0_end_12 hq
theorem rX0_end {G : xG} {fr lo : Nat} {x0 : Nat} {x1 : Int32} {h : xH} {Q : Outcome → xH → Prop} (hq : bX0_end G fr lo x0 x1 h Q) : xR G YX0_end fr lo [rv x0, .int x1] h Q := by
  show xP _ _ _ _ _ (lv_args 0 _) _ _ _
  rw [show lv_args 0 [rv x0, .int x1] = [(0, rv x0), (1, .int x1)] from (xla1 (rv_cat _) (xla1 rfl xla0))]
  exact uX0_end hq
set_option maxRecDepth 100000 in
theorem dX0_program_0 : decode cX0_program 0 = .ok (.aload_n 0, 1) := by decide +kernel
set_option maxRecDepth 100000 in
theorem dX0_program_1 : decode cX0_program 1 = .ok (.getfield 181, 3) := by decide +kernel
set_option maxRecDepth 100000 in
theorem dX0_program_4 : decode cX0_program 4 = .ok (.istore_n 1, 1) := by decide +kernel
set_option maxRecDepth 100000 in
theorem dX0_program_5 : decode cX0_program 5 = .ok (.aload_n 0, 1) := by decide +kernel
set_option maxRecDepth 100000 in
theorem dX0_program_6 : decode cX0_program 6 = .ok (.iconst 0, 1) := by decide +kernel
set_option maxRecDepth 100000 in
theorem dX0_program_7 : decode cX0_program 7 = .ok (.putfield 181, 3) := by decide +kernel
set_option maxRecDepth 100000 in
theorem dX0_program_10 : decode cX0_program 10 = .ok (.aload_n 0, 1) := by decide +kernel
set_option maxRecDepth 100000 in
theorem dX0_program_11 : decode cX0_program 11 = .ok (.aconst_null, 1) := by decide +kernel
set_option maxRecDepth 100000 in
theorem dX0_program_12 : decode cX0_program 12 = .ok (.putfield 184, 3) := by decide +kernel
set_option maxRecDepth 100000 in
theorem dX0_program_15 : decode cX0_program 15 = .ok (.aload_n 0, 1) := by decide +kernel
set_option maxRecDepth 100000 in
theorem dX0_program_16 : decode cX0_program 16 = .ok (.iconst 0, 1) := by decide +kernel
set_option maxRecDepth 100000 in
theorem dX0_program_17 : decode cX0_program 17 = .ok (.putfield 188, 3) := by decide +kernel
set_option maxRecDepth 100000 in
theorem dX0_program_20 : decode cX0_program 20 = .ok (.aload_n 0, 1) := by decide +kernel
set_option maxRecDepth 100000 in
theorem dX0_program_21 : decode cX0_program 21 = .ok (.getfield 112, 3) := by decide +kernel
set_option maxRecDepth 100000 in
theorem dX0_program_24 : decode cX0_program 24 = .ok (.iconst 0, 1) := by decide +kernel
set_option maxRecDepth 100000 in
theorem dX0_program_25 : decode cX0_program 25 = .ok (.putfield 192, 3) := by decide +kernel
set_option maxRecDepth 100000 in
theorem dX0_program_28 : decode cX0_program 28 = .ok (.aload_n 0, 1) := by decide +kernel
set_option maxRecDepth 100000 in
theorem dX0_program_29 : decode cX0_program 29 = .ok (.getfield 112, 3) := by decide +kernel
set_option maxRecDepth 100000 in
theorem dX0_program_32 : decode cX0_program 32 = .ok (.iconst (-1), 1) := by decide +kernel
set_option maxRecDepth 100000 in
theorem dX0_program_33 : decode cX0_program 33 = .ok (.putfield 171, 3) := by decide +kernel
set_option maxRecDepth 100000 in
theorem dX0_program_36 : decode cX0_program 36 = .ok (.aload_n 0, 1) := by decide +kernel
set_option maxRecDepth 100000 in
theorem dX0_program_37 : decode cX0_program 37 = .ok (.getfield 119, 3) := by decide +kernel
set_option maxRecDepth 100000 in
theorem dX0_program_40 : decode cX0_program 40 = .ok (.invokevirtual 195, 3) := by decide +kernel
set_option maxRecDepth 100000 in
theorem dX0_program_43 : decode cX0_program 43 = .ok (.aload_n 0, 1) := by decide +kernel
set_option maxRecDepth 100000 in
theorem dX0_program_44 : decode cX0_program 44 = .ok (.iload_n 1, 1) := by decide +kernel
set_option maxRecDepth 100000 in
theorem dX0_program_45 : decode cX0_program 45 = .ok (.invokevirtual 198, 3) := by decide +kernel
set_option maxRecDepth 100000 in
theorem dX0_program_48 : decode cX0_program 48 = .ok (.goto 9, 3) := by decide +kernel
set_option maxRecDepth 100000 in
theorem dX0_program_51 : decode cX0_program 51 = .ok (.astore_n 2, 1) := by decide +kernel
set_option maxRecDepth 100000 in
theorem dX0_program_52 : decode cX0_program 52 = .ok (.aload_n 0, 1) := by decide +kernel
set_option maxRecDepth 100000 in
theorem dX0_program_53 : decode cX0_program 53 = .ok (.aconst_null, 1) := by decide +kernel
set_option maxRecDepth 100000 in
theorem dX0_program_54 : decode cX0_program 54 = .ok (.putfield 184, 3) := by decide +kernel
set_option maxRecDepth 100000 in
theorem dX0_program_57 : decode cX0_program 57 = .ok (.aload_n 0, 1) := by decide +kernel
set_option maxRecDepth 100000 in
theorem dX0_program_58 : decode cX0_program 58 = .ok (.getfield 112, 3) := by decide +kernel
set_option maxRecDepth 100000 in
theorem dX0_program_61 : decode cX0_program 61 = .ok (.getfield 192, 3) := by decide +kernel
set_option maxRecDepth 100000 in
theorem dX0_program_64 : decode cX0_program 64 = .ok (.ireturn, 1) := by decide +kernel
set_option maxRecDepth 100000 in
def bX0_program_57 (G : xG) (fr lo : Nat) (x0 : Nat) (h : xH) (Q : Outcome → xH → Prop) : Prop := tg h x0 = 1 ∧ tg h (fR h x0 7) = 2 ∧ Q (.returned (some (.int (fI h (fR h x0 7) 256)))) h
set_option maxRecDepth 100000 in
theorem uX0_program_57 {G : xG} {fr lo : Nat} {x0 : Nat} {h : xH} {Q : Outcome → xH → Prop} (hq : bX0_program_57 G fr lo x0 h Q) : xP G YX0_program fr lo 57 [(0, rv x0)] [] h Q := by
  unfold bX0_program_57 at hq
  refine x_aload_n 0 dX0_program_57 rfl ?_
  obtain ⟨g1, hq⟩ := hq
  refine x_get (v := rv (fR h x0 7)) fdX0_112 dX0_program_58 g1 rfl ?_
  obtain ⟨g2, hq⟩ := hq
  refine x_getN (v := .int (fI h (fR h x0 7) 256)) gfX0_192 dX0_program_61 g2 rfl ?_
  exact x_iret rfl rfl dX0_program_64 hq
set_option maxRecDepth 100000 in
def bX0_program_51 (G : xG) (fr lo : Nat) (x0 : Nat) (s0 : Nat) (h : xH) (Q : Outcome → xH → Prop) : Prop := tg h x0 = 1 ∧ (∀ h2 : xH, h2 = sR h x0 12 0 → bX0_program_57 G fr lo x0 h2 Q)
set_option maxRecDepth 100000 in
theorem uX0_program_51 {G : xG} {fr lo : Nat} {x0 : Nat} {s0 : Nat} {h : xH} {Q : Outcome → xH → Prop} (hq : bX0_program_51 G fr lo x0 s0 h Q) : xP G YX0_program fr lo 51 [(0, rv x0)] [rv s0] h Q := by
  unfold bX0_program_51 at hq
  refine x_astore_n (lv' := [(2, rv s0), (0, rv x0)]) dX0_program_51 (by decide) rfl ?_
  refine x_aload_n 1 dX0_program_52 rfl ?_
  refine x_null dX0_program_53 ?_
  obtain ⟨g1, hq⟩ := hq
  obtain ⟨h2, e3⟩ : ∃ y, y = sR h x0 12 0 := ⟨_, rfl⟩
  replace hq := hq h2 e3
  refine x_putR fdX0_184 xty_O dX0_program_54 g1 (Or.inl (by rw [g1]; rfl)) rfl e3 ?_
  refine xP.pick (lv' := [(0, rv x0)]) [1] rfl ?_
  exact uX0_program_57 hq
set_option maxRecDepth 100000 in
def bX0_program (G : xG) (fr lo : Nat) (x0 : Nat) (h : xH) (Q : Outcome → xH → Prop) : Prop := tg h x0 = 1 ∧ (∀ h2 : xH, h2 = sI h x0 4 0 → (∀ h5 : xH, h5 = sR h2 x0 12 0 → (∀ h8 : xH, h8 = sI h5 x0 18 0 → tg h8 (fR h8 x0 7) = 2 ∧ (∀ h12 : xH, h12 = sI h8 (fR h8 x0 7) 256 0 → tg h12 (fR h12 x0 7) = 2 ∧ (∀ h16 : xH, h16 = sI h12 (fR h12 x0 7) 257 (-1) → tg h16 (fR h16 x0 8) = 3 ∧ 1 ≤ fr ∧ 12 ≤ lo ∧ xRv G YX2_clear (fr - 1) (lo - 12) [rv (fR h16 x0 8)] h16 (fun h22 => xext h16 h22 → 1 ≤ fr ∧ 16 ≤ lo ∧ xRv G YX0_read (fr - 1) (lo - 16) [rv x0, .int (fI h x0 4)] h22 (fun h28 => xext h22 h28 → bX0_program_57 G fr lo x0 h28 Q) (fun r31 h32 => xext h22 h32 → tg h32 (r31 + 1) = 32 ∧ bX0_program_51 G fr lo x0 (r31 + 1) h32 Q)) (fun r h2 => Q (.threw r) h2))))))
set_option maxRecDepth 100000 in
theorem uX0_program {G : xG} {fr lo : Nat} {x0 : Nat} {h : xH} {Q : Outcome → xH → Prop} (hq : bX0_program G fr lo x0 h Q) : xP G YX0_program fr lo 0 [(0, rv x0)] [] h Q := by
  unfold bX0_program at hq
  refine x_aload_n 0 dX0_program_0 rfl ?_
  obtain ⟨g1, hq⟩ := hq
  refine x_get (v := .int (fI h x0 4)) fdX0_181 dX0_program_1 g1 rfl ?_
  refine x_istore_n (lv' := [(1, .int (fI h x0 4)), (0, rv x0)]) dX0_program_4 (by decide) (by first | rfl | (simp [rv_cat, Value.category]; done) | (simp [rv_cat, Value.category]; decide)) ?_
  refine x_aload_n 1 dX0_program_5 rfl ?_
  refine x_iconst (v := 0) dX0_program_6 (by decide) ?_
  obtain ⟨h2, e3⟩ : ∃ y, y = sI h x0 4 0 := ⟨_, rfl⟩
  replace hq := hq h2 e3
  refine x_putI fdX0_181 xty_I1 dX0_program_7 g1 (Or.inl (by rw [g1]; rfl)) xnI rfl e3 ?_
  refine x_aload_n 1 dX0_program_10 rfl ?_
  refine x_null dX0_program_11 ?_
  have t4 : tg h2 x0 = 1 := by rw [e3]; exact g1
  obtain ⟨h5, e6⟩ : ∃ y, y = sR h2 x0 12 0 := ⟨_, rfl⟩
  replace hq := hq h5 e6
  refine x_putR fdX0_184 xty_O dX0_program_12 t4 (Or.inl (by rw [t4]; rfl)) rfl e6 ?_
  refine x_aload_n 1 dX0_program_15 rfl ?_
  refine x_iconst (v := 0) dX0_program_16 (by decide) ?_
  have t7 : tg h5 x0 = 1 := by rw [e6]; exact t4
  obtain ⟨h8, e9⟩ : ∃ y, y = sI h5 x0 18 0 := ⟨_, rfl⟩
  replace hq := hq h8 e9
  refine x_putI fdX0_188 xty_Z1 dX0_program_17 t7 (Or.inl (by rw [t7]; rfl)) (xnB (Or.inl rfl)) rfl e9 ?_
  refine x_aload_n 1 dX0_program_20 rfl ?_
  have t10 : tg h8 x0 = 1 := by rw [e9]; exact t7
  refine x_get (v := rv (fR h8 x0 7)) fdX0_112 dX0_program_21 t10 rfl ?_
  refine x_iconst (v := 0) dX0_program_24 (by decide) ?_
  obtain ⟨g11, hq⟩ := hq
  obtain ⟨h12, e13⟩ : ∃ y, y = sI h8 (fR h8 x0 7) 256 0 := ⟨_, rfl⟩
  replace hq := hq h12 e13
  refine x_putNI gfX0_192 xty_I1 dX0_program_25 g11 (Or.inl (by rw [g11]; rfl)) xnI rfl e13 ?_
  refine x_aload_n 1 dX0_program_28 rfl ?_
  have t14 : tg h12 x0 = 1 := by rw [e13]; exact t10
  refine x_get (v := rv (fR h12 x0 7)) fdX0_112 dX0_program_29 t14 rfl ?_
  refine x_iconst (v := (-1)) dX0_program_32 (by decide) ?_
  obtain ⟨g15, hq⟩ := hq
  obtain ⟨h16, e17⟩ : ∃ y, y = sI h12 (fR h12 x0 7) 257 (-1) := ⟨_, rfl⟩
  replace hq := hq h16 e17
  refine x_putNI gfX0_171 xty_I1 dX0_program_33 g15 (Or.inl (by rw [g15]; rfl)) xnI rfl e17 ?_
  refine x_aload_n 1 dX0_program_36 rfl ?_
  have t18 : tg h16 x0 = 1 := by rw [e17]; exact t14
  refine x_get (v := rv (fR h16 x0 8)) fdX0_119 dX0_program_37 t18 rfl ?_
  obtain ⟨g19, hq⟩ := hq
  obtain ⟨g20, g21, hq⟩ := hq
  refine x_callV (Yc := YX2_clear) (as := []) (st := []) q1483 mvX2_clear g19 rfl dX0_program_40 (xle (xal1 (rv_cat _) xal0) (by decide)) (xfr g20) (xlo xsw0 (by decide) g21) (xKv hq (fun h22 hq e24 => ?_) (fun _ _ q _ => q)) (show ∀ q ∈ [(43, 48, 51, 201)], ¬ (q.1 ≤ 40 ∧ 40 < q.2.1) from by decide)
  replace hq := hq e24
  refine x_aload_n 1 dX0_program_43 rfl ?_
  refine x_iload_n 0 dX0_program_44 rfl ?_
  have t25 : tg h22 x0 = 1 := e24.tg t18 (by decide)
  obtain ⟨g26, g27, hq⟩ := hq
  refine x_try (Yc := YX0_read) (as := [rv x0, .int (fI h x0 4)]) (st := []) (ci := 31) (43, 48, 51, 201) rfl (by decide) (by decide) (by decide) rfl q1482 (x_entV (Yc := YX0_read) (as := [.int (fI h x0 4)]) (st := []) q1491 mvX0_read t25 rfl dX0_program_45) dX0_program_45 mvX0_read.mc.1 mvX0_read.mc.2.1 (xle (xal1 (rv_cat _) (xal1 rfl xal0)) (by decide)) (xfr g26) (xlo xsw0 (by decide) g27) (xTv hq (fun h28 hq e30 => ?_) (fun r31 h32 hq e33 => ?_))
  · replace hq := hq e30
    refine x_goto (tgt := 57) dX0_program_48 (by decide) ?_
    refine xP.pick (lv' := [(0, rv x0)]) [1] rfl ?_
    exact uX0_program_57 hq
  · replace hq := hq e33
    refine ⟨hq.1, ?_⟩
    replace hq := hq.2
    refine xP.pick (lv' := [(0, rv x0)]) [1] rfl ?_
    exact uX0_program_51 hq
theorem rX0_program {G : xG} {fr lo : Nat} {x0 : Nat} {h : xH} {Q : Outcome → xH → Prop} (hq : bX0_program G fr lo x0 h Q) : xR G YX0_program fr lo [rv x0] h Q := by
  show xP _ _ _ _ _ (lv_args 0 _) _ _ _
  rw [show lv_args 0 [rv x0] = [(0, rv x0)] from (xla1 (rv_cat _) xla0)]
  exact uX0_program hq
set_option maxRecDepth 100000 in
theorem dX0_read_0 : decode cX0_read 0 = .ok (.iload_n 1, 1) := by decide +kernel
set_option maxRecDepth 100000 in
theorem dX0_read_1 : decode cX0_read 1 = .ok (.sipush 10000, 3) := by decide +kernel
set_option maxRecDepth 100000 in
theorem dX0_read_4 : decode cX0_read 4 = .ok (.if_icmp .le 15, 3) := by decide +kernel
set_option maxRecDepth 100000 in
theorem dX0_read_7 : decode cX0_read 7 = .ok (.aload_n 0, 1) := by decide +kernel
set_option maxRecDepth 100000 in
theorem dX0_read_8 : decode cX0_read 8 = .ok (.getfield 112, 3) := by decide +kernel
set_option maxRecDepth 100000 in
theorem dX0_read_11 : decode cX0_read 11 = .ok (.iconst 1, 1) := by decide +kernel
set_option maxRecDepth 100000 in
theorem dX0_read_12 : decode cX0_read 12 = .ok (.sipush 10000, 3) := by decide +kernel
set_option maxRecDepth 100000 in
theorem dX0_read_15 : decode cX0_read 15 = .ok (.invokevirtual 203, 3) := by decide +kernel
set_option maxRecDepth 100000 in
theorem dX0_read_18 : decode cX0_read 18 = .ok (.athrow, 1) := by decide +kernel
set_option maxRecDepth 100000 in
theorem dX0_read_19 : decode cX0_read 19 = .ok (.aload_n 0, 1) := by decide +kernel
set_option maxRecDepth 100000 in
theorem dX0_read_20 : decode cX0_read 20 = .ok (.getfield 133, 3) := by decide +kernel
set_option maxRecDepth 100000 in
theorem dX0_read_23 : decode cX0_read 23 = .ok (.iload_n 1, 1) := by decide +kernel
set_option maxRecDepth 100000 in
theorem dX0_read_24 : decode cX0_read 24 = .ok (.invokevirtual 207, 3) := by decide +kernel
set_option maxRecDepth 100000 in
theorem dX0_read_27 : decode cX0_read 27 = .ok (.astore_n 2, 1) := by decide +kernel
set_option maxRecDepth 100000 in
theorem dX0_read_28 : decode cX0_read 28 = .ok (.aload_n 0, 1) := by decide +kernel
set_option maxRecDepth 100000 in
theorem dX0_read_29 : decode cX0_read 29 = .ok (.aload_n 0, 1) := by decide +kernel
set_option maxRecDepth 100000 in
theorem dX0_read_30 : decode cX0_read 30 = .ok (.getfield 133, 3) := by decide +kernel
set_option maxRecDepth 100000 in
theorem dX0_read_33 : decode cX0_read 33 = .ok (.getfield 210, 3) := by decide +kernel
set_option maxRecDepth 100000 in
theorem dX0_read_36 : decode cX0_read 36 = .ok (.iconst 1, 1) := by decide +kernel
set_option maxRecDepth 100000 in
theorem dX0_read_37 : decode cX0_read 37 = .ok (.isub, 1) := by decide +kernel
set_option maxRecDepth 100000 in
theorem dX0_read_38 : decode cX0_read 38 = .ok (.putfield 213, 3) := by decide +kernel
set_option maxRecDepth 100000 in
theorem dX0_read_41 : decode cX0_read 41 = .ok (.aload_n 0, 1) := by decide +kernel
set_option maxRecDepth 100000 in
theorem dX0_read_42 : decode cX0_read 42 = .ok (.aload_n 0, 1) := by decide +kernel
set_option maxRecDepth 100000 in
theorem dX0_read_43 : decode cX0_read 43 = .ok (.getfield 142, 3) := by decide +kernel
set_option maxRecDepth 100000 in
theorem dX0_read_46 : decode cX0_read 46 = .ok (.aload_n 2, 1) := by decide +kernel
set_option maxRecDepth 100000 in
theorem dX0_read_47 : decode cX0_read 47 = .ok (.invokevirtual 214, 3) := by decide +kernel
set_option maxRecDepth 100000 in
theorem dX0_read_50 : decode cX0_read 50 = .ok (.putfield 184, 3) := by decide +kernel
set_option maxRecDepth 100000 in
theorem dX0_read_53 : decode cX0_read 53 = .ok (.aload_n 0, 1) := by decide +kernel
set_option maxRecDepth 100000 in
theorem dX0_read_54 : decode cX0_read 54 = .ok (.iconst 0, 1) := by decide +kernel
set_option maxRecDepth 100000 in
theorem dX0_read_55 : decode cX0_read 55 = .ok (.putfield 217, 3) := by decide +kernel
set_option maxRecDepth 100000 in
theorem dX0_read_58 : decode cX0_read 58 = .ok (.aload_n 0, 1) := by decide +kernel
set_option maxRecDepth 100000 in
theorem dX0_read_59 : decode cX0_read 59 = .ok (.iconst (-1), 1) := by decide +kernel
set_option maxRecDepth 100000 in
theorem dX0_read_60 : decode cX0_read 60 = .ok (.putfield 158, 3) := by decide +kernel
set_option maxRecDepth 100000 in
theorem dX0_read_63 : decode cX0_read 63 = .ok (.aload_n 0, 1) := by decide +kernel
set_option maxRecDepth 100000 in
theorem dX0_read_64 : decode cX0_read 64 = .ok (.iconst (-1), 1) := by decide +kernel
set_option maxRecDepth 100000 in
theorem dX0_read_65 : decode cX0_read 65 = .ok (.putfield 162, 3) := by decide +kernel
set_option maxRecDepth 100000 in
theorem dX0_read_68 : decode cX0_read 68 = .ok (.aload_n 2, 1) := by decide +kernel
set_option maxRecDepth 100000 in
theorem dX0_read_69 : decode cX0_read 69 = .ok (.getfield 220, 3) := by decide +kernel
set_option maxRecDepth 100000 in
theorem dX0_read_72 : decode cX0_read 72 = .ok (.getfield 220, 3) := by decide +kernel
set_option maxRecDepth 100000 in
theorem dX0_read_75 : decode cX0_read 75 = .ok (.astore_n 3, 1) := by decide +kernel
set_option maxRecDepth 100000 in
theorem dX0_read_76 : decode cX0_read 76 = .ok (.aload_n 3, 1) := by decide +kernel
set_option maxRecDepth 100000 in
theorem dX0_read_77 : decode cX0_read 77 = .ok (.ifnull 93, 3) := by decide +kernel
set_option maxRecDepth 100000 in
theorem dX0_read_80 : decode cX0_read 80 = .ok (.aload_n 0, 1) := by decide +kernel
set_option maxRecDepth 100000 in
theorem dX0_read_81 : decode cX0_read 81 = .ok (.getfield 184, 3) := by decide +kernel
set_option maxRecDepth 100000 in
theorem dX0_read_84 : decode cX0_read 84 = .ok (.getfield 226, 3) := by decide +kernel
set_option maxRecDepth 100000 in
theorem dX0_read_87 : decode cX0_read 87 = .ok (.aload_n 3, 1) := by decide +kernel
set_option maxRecDepth 100000 in
theorem dX0_read_88 : decode cX0_read 88 = .ok (.invokevirtual 232, 3) := by decide +kernel
set_option maxRecDepth 100000 in
theorem dX0_read_91 : decode cX0_read 91 = .ok (.invokevirtual 236, 3) := by decide +kernel
set_option maxRecDepth 100000 in
theorem dX0_read_94 : decode cX0_read 94 = .ok (.astore 4, 2) := by decide +kernel
set_option maxRecDepth 100000 in
theorem dX0_read_96 : decode cX0_read 96 = .ok (.aload_n 0, 1) := by decide +kernel
set_option maxRecDepth 100000 in
theorem dX0_read_97 : decode cX0_read 97 = .ok (.getfield 155, 3) := by decide +kernel
set_option maxRecDepth 100000 in
theorem dX0_read_100 : decode cX0_read 100 = .ok (.aload_n 0, 1) := by decide +kernel
set_option maxRecDepth 100000 in
theorem dX0_read_101 : decode cX0_read 101 = .ok (.getfield 217, 3) := by decide +kernel
set_option maxRecDepth 100000 in
theorem dX0_read_104 : decode cX0_read 104 = .ok (.aload 4, 2) := by decide +kernel
set_option maxRecDepth 100000 in
theorem dX0_read_106 : decode cX0_read 106 = .ok (.getfield 242, 3) := by decide +kernel
set_option maxRecDepth 100000 in
theorem dX0_read_109 : decode cX0_read 109 = .ok (.iastore, 1) := by decide +kernel
set_option maxRecDepth 100000 in
theorem dX0_read_110 : decode cX0_read 110 = .ok (.aload 4, 2) := by decide +kernel
set_option maxRecDepth 100000 in
theorem dX0_read_112 : decode cX0_read 112 = .ok (.aload_n 0, 1) := by decide +kernel
set_option maxRecDepth 100000 in
theorem dX0_read_113 : decode cX0_read 113 = .ok (.getfield 142, 3) := by decide +kernel
set_option maxRecDepth 100000 in
theorem dX0_read_116 : decode cX0_read 116 = .ok (.getfield 247, 3) := by decide +kernel
set_option maxRecDepth 100000 in
theorem dX0_read_119 : decode cX0_read 119 = .ok (.if_acmp .ne 12, 3) := by decide +kernel
set_option maxRecDepth 100000 in
theorem dX0_read_122 : decode cX0_read 122 = .ok (.aload_n 0, 1) := by decide +kernel
set_option maxRecDepth 100000 in
theorem dX0_read_123 : decode cX0_read 123 = .ok (.aload 4, 2) := by decide +kernel
set_option maxRecDepth 100000 in
theorem dX0_read_125 : decode cX0_read 125 = .ok (.getfield 242, 3) := by decide +kernel
set_option maxRecDepth 100000 in
theorem dX0_read_128 : decode cX0_read 128 = .ok (.putfield 158, 3) := by decide +kernel
set_option maxRecDepth 100000 in
theorem dX0_read_131 : decode cX0_read 131 = .ok (.aload 4, 2) := by decide +kernel
set_option maxRecDepth 100000 in
theorem dX0_read_133 : decode cX0_read 133 = .ok (.aload_n 0, 1) := by decide +kernel
set_option maxRecDepth 100000 in
theorem dX0_read_134 : decode cX0_read 134 = .ok (.getfield 142, 3) := by decide +kernel
set_option maxRecDepth 100000 in
theorem dX0_read_137 : decode cX0_read 137 = .ok (.getfield 250, 3) := by decide +kernel
set_option maxRecDepth 100000 in
theorem dX0_read_140 : decode cX0_read 140 = .ok (.if_acmp .ne 12, 3) := by decide +kernel
set_option maxRecDepth 100000 in
theorem dX0_read_143 : decode cX0_read 143 = .ok (.aload_n 0, 1) := by decide +kernel
set_option maxRecDepth 100000 in
theorem dX0_read_144 : decode cX0_read 144 = .ok (.aload 4, 2) := by decide +kernel
set_option maxRecDepth 100000 in
theorem dX0_read_146 : decode cX0_read 146 = .ok (.getfield 242, 3) := by decide +kernel
set_option maxRecDepth 100000 in
theorem dX0_read_149 : decode cX0_read 149 = .ok (.putfield 162, 3) := by decide +kernel
set_option maxRecDepth 100000 in
theorem dX0_read_152 : decode cX0_read 152 = .ok (.aload_n 0, 1) := by decide +kernel
set_option maxRecDepth 100000 in
theorem dX0_read_153 : decode cX0_read 153 = .ok (.dup, 1) := by decide +kernel
set_option maxRecDepth 100000 in
theorem dX0_read_154 : decode cX0_read 154 = .ok (.getfield 217, 3) := by decide +kernel
set_option maxRecDepth 100000 in
theorem dX0_read_157 : decode cX0_read 157 = .ok (.iconst 1, 1) := by decide +kernel
set_option maxRecDepth 100000 in
theorem dX0_read_158 : decode cX0_read 158 = .ok (.iadd, 1) := by decide +kernel
set_option maxRecDepth 100000 in
theorem dX0_read_159 : decode cX0_read 159 = .ok (.putfield 217, 3) := by decide +kernel
set_option maxRecDepth 100000 in
theorem dX0_read_162 : decode cX0_read 162 = .ok (.aload_n 3, 1) := by decide +kernel
set_option maxRecDepth 100000 in
theorem dX0_read_163 : decode cX0_read 163 = .ok (.getfield 253, 3) := by decide +kernel
set_option maxRecDepth 100000 in
theorem dX0_read_166 : decode cX0_read 166 = .ok (.astore_n 3, 1) := by decide +kernel
set_option maxRecDepth 100000 in
theorem dX0_read_167 : decode cX0_read 167 = .ok (.goto (-91), 3) := by decide +kernel
set_option maxRecDepth 100000 in
theorem dX0_read_170 : decode cX0_read 170 = .ok (.return_, 1) := by decide +kernel
def lX0_read_76 (G : xG) (fr lo : Nat) (x0 : Nat) (x3 : Nat) (h : xH) (Q : Outcome → xH → Prop) : Prop := xP G YX0_read fr lo 76 [(0, rv x0), (3, rv x3)] [] h Q
set_option maxRecDepth 100000 in
def bX0_read_152 (G : xG) (fr lo : Nat) (x0 : Nat) (x3 : Nat) (h : xH) (Q : Outcome → xH → Prop) : Prop := tg h x0 = 1 ∧ (∀ h2 : xH, h2 = sI h x0 14 ((fI h x0 14) + 1) → tg h2 x3 = 16 ∧ lX0_read_76 G fr lo x0 (fR h2 x3 3844) h2 Q)
set_option maxRecDepth 100000 in
theorem uX0_read_152 {G : xG} {fr lo : Nat} {x0 : Nat} {x3 : Nat} {h : xH} {Q : Outcome → xH → Prop} (hq : bX0_read_152 G fr lo x0 x3 h Q) : xP G YX0_read fr lo 152 [(0, rv x0), (3, rv x3)] [] h Q := by
  unfold bX0_read_152 at hq
  refine x_aload_n 0 dX0_read_152 rfl ?_
  refine x_dup dX0_read_153 (rv_cat _) ?_
  obtain ⟨g1, hq⟩ := hq
  refine x_get (v := .int (fI h x0 14)) fdX0_217 dX0_read_154 g1 rfl ?_
  refine x_iconst (v := 1) dX0_read_157 (by decide) ?_
  refine x_iadd dX0_read_158 ?_
  obtain ⟨h2, e3⟩ : ∃ y, y = sI h x0 14 ((fI h x0 14) + 1) := ⟨_, rfl⟩
  replace hq := hq h2 e3
  refine x_putI fdX0_217 xty_I1 dX0_read_159 g1 (Or.inl (by rw [g1]; rfl)) xnI rfl e3 ?_
  refine x_aload_n 1 dX0_read_162 rfl ?_
  obtain ⟨g4, hq⟩ := hq
  refine x_getN (v := rv (fR h2 x3 3844)) gfX0_253 dX0_read_163 g4 rfl ?_
  refine x_astore_n (lv' := [(3, rv (fR h2 x3 3844)), (0, rv x0)]) dX0_read_166 (by decide) rfl ?_
  refine x_goto (tgt := 76) dX0_read_167 (by decide) ?_
  refine xP.pick (lv' := [(0, rv x0), (3, rv (fR h2 x3 3844))]) [1, 0] rfl ?_
  exact hq
set_option maxRecDepth 100000 in
def bX0_read_131 (G : xG) (fr lo : Nat) (x0 : Nat) (x3 : Nat) (x4 : Nat) (h : xH) (Q : Outcome → xH → Prop) : Prop := tg h x0 = 1 ∧ tg h (fR h x0 10) = 6 ∧ ((¬ x4 = (fR h (fR h x0 10) 1306) → bX0_read_152 G fr lo x0 x3 h Q) ∧ (x4 = (fR h (fR h x0 10) 1306) → tg h x4 = 9 ∧ (∀ h5 : xH, h5 = sI h x0 17 (fI h x4 2053) → bX0_read_152 G fr lo x0 x3 h5 Q)))
set_option maxRecDepth 100000 in
theorem uX0_read_131 {G : xG} {fr lo : Nat} {x0 : Nat} {x3 : Nat} {x4 : Nat} {h : xH} {Q : Outcome → xH → Prop} (hq : bX0_read_131 G fr lo x0 x3 x4 h Q) : xP G YX0_read fr lo 131 [(0, rv x0), (3, rv x3), (4, rv x4)] [] h Q := by
  unfold bX0_read_131 at hq
  refine x_aload 2 dX0_read_131 rfl ?_
  refine x_aload_n 0 dX0_read_133 rfl ?_
  obtain ⟨g1, hq⟩ := hq
  refine x_get (v := rv (fR h x0 10)) fdX0_142 dX0_read_134 g1 rfl ?_
  obtain ⟨g2, hq⟩ := hq
  refine x_getN (v := rv (fR h (fR h x0 10) 1306)) gfX0_250 dX0_read_137 g2 rfl ?_
  refine x_acmp_ne (tgt := 152) dX0_read_140 (by decide) (fun c3 => ?_) (fun c3 => ?_)
  · replace hq := hq.1 c3
    refine xP.pick (lv' := [(0, rv x0), (3, rv x3)]) [0, 1] rfl ?_
    exact uX0_read_152 hq
  · replace hq := hq.2 c3
    refine x_aload_n 0 dX0_read_143 rfl ?_
    refine x_aload 2 dX0_read_144 rfl ?_
    obtain ⟨g4, hq⟩ := hq
    refine x_getN (v := .int (fI h x4 2053)) gfX0_242 dX0_read_146 g4 rfl ?_
    obtain ⟨h5, e6⟩ : ∃ y, y = sI h x0 17 (fI h x4 2053) := ⟨_, rfl⟩
    replace hq := hq h5 e6
    refine x_putI fdX0_162 xty_I1 dX0_read_149 g1 (Or.inl (by rw [g1]; rfl)) xnI rfl e6 ?_
    refine xP.pick (lv' := [(0, rv x0), (3, rv x3)]) [0, 1] rfl ?_
    exact uX0_read_152 hq
set_option maxRecDepth 100000 in
def bX0_read_76 (G : xG) (fr lo : Nat) (x0 : Nat) (x3 : Nat) (h : xH) (Q : Outcome → xH → Prop) : Prop := ((x3 = 0 → Q (.returned none) h) ∧ (¬ x3 = 0 → tg h x0 = 1 ∧ tg h (fR h x0 12) = 17 ∧ tg h x3 = 16 ∧ 1 ≤ fr ∧ 13 ≤ lo ∧ xRr G YX15_text (fr - 1) (lo - 13) [rv x3] h (fun x8 h7 => xext h h7 → tg h7 (fR h (fR h x0 12) 4101) = 8 ∧ 1 ≤ fr ∧ 14 ≤ lo ∧ xRr G YX7_own (fr - 1) (lo - 14) [rv (fR h (fR h x0 12) 4101), rv x8] h7 (fun x14 h13 => xext h7 h13 → tg h13 x14 = 9 ∧ tg h13 (fR h13 x0 13) = 100 ∧ vp_in (fI h13 x0 14) (ln h13 (fR h13 x0 13)) ∧ (∀ h21 : xH, h21 = tI h13 (fR h13 x0 13) (Int32.toNatClampNeg (fI h13 x0 14)) (fI h13 x14 2053) → tg h21 (fR h21 x0 10) = 6 ∧ ((¬ x14 = (fR h21 (fR h21 x0 10) 1305) → bX0_read_131 G fr lo x0 x3 x14 h21 Q) ∧ (x14 = (fR h21 (fR h21 x0 10) 1305) → (∀ h27 : xH, h27 = sI h21 x0 16 (fI h21 x14 2053) → bX0_read_131 G fr lo x0 x3 x14 h27 Q))))) (fun r h2 => Q (.threw r) h2)) (fun r h2 => Q (.threw r) h2)))
set_option maxRecDepth 100000 in
theorem uX0_read_76 {G : xG} {fr lo : Nat} {x0 : Nat} {x3 : Nat} {h : xH} {Q : Outcome → xH → Prop} (hq : bX0_read_76 G fr lo x0 x3 h Q) : xP G YX0_read fr lo 76 [(0, rv x0), (3, rv x3)] [] h Q := by
  unfold bX0_read_76 at hq
  refine x_aload_n 1 dX0_read_76 rfl ?_
  refine x_ifnull (tgt := 170) dX0_read_77 (by decide) (fun c1 => ?_) (fun c1 => ?_)
  · replace hq := hq.1 c1
    exact x_vret rfl dX0_read_170 hq
  · replace hq := hq.2 c1
    refine x_aload_n 0 dX0_read_80 rfl ?_
    obtain ⟨g2, hq⟩ := hq
    refine x_get (v := rv (fR h x0 12)) fdX0_184 dX0_read_81 g2 rfl ?_
    obtain ⟨g3, hq⟩ := hq
    refine x_getN (v := rv (fR h (fR h x0 12) 4101)) gfX0_226 dX0_read_84 g3 rfl ?_
    refine x_aload_n 1 dX0_read_87 rfl ?_
    obtain ⟨g4, hq⟩ := hq
    obtain ⟨g5, g6, hq⟩ := hq
    refine x_callV (Yc := YX15_text) (as := []) (st := [rv (fR h (fR h x0 12) 4101)]) q2806 mvX15_text g4 rfl dX0_read_88 (xle (xal1 (rv_cat _) xal0) (by decide)) (xfr g5) (xlo (xsw1 (rv_cat _) xsw0) (by decide) g6) (xKr hq (fun x8 h7 hq e9 => ?_) (fun _ _ q _ => q))
    replace hq := hq e9
    obtain ⟨g10, hq⟩ := hq
    obtain ⟨g11, g12, hq⟩ := hq
    refine x_callV (Yc := YX7_own) (as := [rv x8]) (st := []) q2807 mvX7_own g10 rfl dX0_read_91 (xle (xal1 (rv_cat _) (xal1 (rv_cat _) xal0)) (by decide)) (xfr g11) (xlo xsw0 (by decide) g12) (xKr hq (fun x14 h13 hq e15 => ?_) (fun _ _ q _ => q))
    replace hq := hq e15
    refine x_astore (lv' := [(4, rv x14), (0, rv x0), (3, rv x3)]) dX0_read_94 (by decide) (by first | rfl | (simp [rv_cat, Value.category]; done) | (simp [rv_cat, Value.category]; decide)) ?_
    refine x_aload_n 1 dX0_read_96 rfl ?_
    have t16 : tg h7 x0 = 1 := e9.tg g2 (by decide)
    have t17 : tg h13 x0 = 1 := e15.tg t16 (by decide)
    refine x_get (v := rv (fR h13 x0 13)) fdX0_155 dX0_read_97 t17 rfl ?_
    refine x_aload_n 1 dX0_read_100 rfl ?_
    refine x_get (v := .int (fI h13 x0 14)) fdX0_217 dX0_read_101 t17 rfl ?_
    refine x_aload 0 dX0_read_104 rfl ?_
    obtain ⟨g18, hq⟩ := hq
    refine x_getN (v := .int (fI h13 x14 2053)) gfX0_242 dX0_read_106 g18 rfl ?_
    obtain ⟨g19, hq⟩ := hq
    obtain ⟨i20, hq⟩ := hq
    obtain ⟨h21, e22⟩ : ∃ y, y = tI h13 (fR h13 x0 13) (Int32.toNatClampNeg (fI h13 x0 14)) (fI h13 x14 2053) := ⟨_, rfl⟩
    replace hq := hq h21 e22
    refine x_iast' g19 i20 dX0_read_109 e22 ?_
    refine x_aload 0 dX0_read_110 rfl ?_
    refine x_aload_n 1 dX0_read_112 rfl ?_
    have t23 : tg h21 x0 = 1 := by rw [e22]; exact t17
    refine x_get (v := rv (fR h21 x0 10)) fdX0_142 dX0_read_113 t23 rfl ?_
    obtain ⟨g24, hq⟩ := hq
    refine x_getN (v := rv (fR h21 (fR h21 x0 10) 1305)) gfX0_247 dX0_read_116 g24 rfl ?_
    refine x_acmp_ne (tgt := 131) dX0_read_119 (by decide) (fun c25 => ?_) (fun c25 => ?_)
    · replace hq := hq.1 c25
      refine xP.pick (lv' := [(0, rv x0), (3, rv x3), (4, rv x14)]) [1, 2, 0] rfl ?_
      exact uX0_read_131 hq
    · replace hq := hq.2 c25
      refine x_aload_n 1 dX0_read_122 rfl ?_
      refine x_aload 0 dX0_read_123 rfl ?_
      have t26 : tg h21 x14 = 9 := by rw [e22]; exact g18
      refine x_getN (v := .int (fI h21 x14 2053)) gfX0_242 dX0_read_125 t26 rfl ?_
      obtain ⟨h27, e28⟩ : ∃ y, y = sI h21 x0 16 (fI h21 x14 2053) := ⟨_, rfl⟩
      replace hq := hq h27 e28
      refine x_putI fdX0_158 xty_I1 dX0_read_128 t23 (Or.inl (by rw [t23]; rfl)) xnI rfl e28 ?_
      refine xP.pick (lv' := [(0, rv x0), (3, rv x3), (4, rv x14)]) [1, 2, 0] rfl ?_
      exact uX0_read_131 hq
set_option maxRecDepth 100000 in
def bX0_read (G : xG) (fr lo : Nat) (x0 : Nat) (x1 : Int32) (h : xH) (Q : Outcome → xH → Prop) : Prop := ((x1 ≤ 10000 → tg h x0 = 1 ∧ tg h (fR h x0 9) = 4 ∧ 1 ≤ fr ∧ 15 ≤ lo ∧ xRr G YX3_program (fr - 1) (lo - 15) [rv (fR h x0 9), .int x1] h (fun x7 h6 => xext h h6 → tg h6 (fR h6 x0 9) = 4 ∧ (∀ h11 : xH, h11 = sI h6 x0 15 ((fI h6 (fR h6 x0 9) 771) - 1) → tg h11 (fR h11 x0 10) = 6 ∧ 1 ≤ fr ∧ 16 ≤ lo ∧ xRr G YX5_program (fr - 1) (lo - 16) [rv (fR h11 x0 10), rv x7] h11 (fun x18 h17 => xext h11 h17 → (∀ h21 : xH, h21 = sR h17 x0 12 x18 → (∀ h24 : xH, h24 = sI h21 x0 14 0 → (∀ h27 : xH, h27 = sI h24 x0 16 (-1) → (∀ h30 : xH, h30 = sI h27 x0 17 (-1) → tg h30 x7 = 16 ∧ tg h30 (fR h30 x7 3842) = 16 ∧ lX0_read_76 G fr lo x0 (fR h30 (fR h30 x7 3842) 3842) h30 Q))))) (fun r h2 => Q (.threw r) h2))) (fun r h2 => Q (.threw r) h2)) ∧ (¬ x1 ≤ 10000 → tg h x0 = 1 ∧ tg h (fR h x0 7) = 2 ∧ 1 ≤ fr ∧ 14 ≤ lo ∧ xRr G YX1_at (fr - 1) (lo - 14) [rv (fR h x0 7), .int 1, .int 10000] h (fun x39 h38 => xext h h38 → (∃ r41, x39 = r41 + 1 ∧ Q (.threw r41) h38)) (fun r h2 => Q (.threw r) h2)))
set_option maxRecDepth 100000 in
theorem uX0_read {G : xG} {fr lo : Nat} {x0 : Nat} {x1 : Int32} {h : xH} {Q : Outcome → xH → Prop} (hq : bX0_read G fr lo x0 x1 h Q) : xP G YX0_read fr lo 0 [(0, rv x0), (1, .int x1)] [] h Q := by
  unfold bX0_read at hq
  refine x_iload_n 1 dX0_read_0 rfl ?_
  refine x_sipush (v := 10000) dX0_read_1 (by decide) ?_
  refine x_icmp_le (tgt := 19) dX0_read_4 (by decide) (fun c1 => ?_) (fun c1 => ?_)
  · replace hq := hq.1 c1
    refine x_aload_n 0 dX0_read_19 rfl ?_
    obtain ⟨g2, hq⟩ := hq
    refine x_get (v := rv (fR h x0 9)) fdX0_133 dX0_read_20 g2 rfl ?_
    refine x_iload_n 1 dX0_read_23 rfl ?_
    obtain ⟨g3, hq⟩ := hq
    obtain ⟨g4, g5, hq⟩ := hq
    refine x_callV (Yc := YX3_program) (as := [.int x1]) (st := []) q1560 mvX3_program g3 rfl dX0_read_24 (xle (xal1 (rv_cat _) (xal1 rfl xal0)) (by decide)) (xfr g4) (xlo xsw0 (by decide) g5) (xKr hq (fun x7 h6 hq e8 => ?_) (fun _ _ q _ => q))
    replace hq := hq e8
    refine x_astore_n (lv' := [(2, rv x7), (0, rv x0), (1, .int x1)]) dX0_read_27 (by decide) rfl ?_
    refine x_aload_n 1 dX0_read_28 rfl ?_
    refine x_aload_n 1 dX0_read_29 rfl ?_
    have t9 : tg h6 x0 = 1 := e8.tg g2 (by decide)
    refine x_get (v := rv (fR h6 x0 9)) fdX0_133 dX0_read_30 t9 rfl ?_
    obtain ⟨g10, hq⟩ := hq
    refine x_getN (v := .int (fI h6 (fR h6 x0 9) 771)) gfX0_210 dX0_read_33 g10 rfl ?_
    refine x_iconst (v := 1) dX0_read_36 (by decide) ?_
    refine x_isub dX0_read_37 ?_
    obtain ⟨h11, e12⟩ : ∃ y, y = sI h6 x0 15 ((fI h6 (fR h6 x0 9) 771) - 1) := ⟨_, rfl⟩
    replace hq := hq h11 e12
    refine x_putI fdX0_213 xty_I1 dX0_read_38 t9 (Or.inl (by rw [t9]; rfl)) xnI rfl e12 ?_
    refine x_aload_n 1 dX0_read_41 rfl ?_
    refine x_aload_n 1 dX0_read_42 rfl ?_
    have t13 : tg h11 x0 = 1 := by rw [e12]; exact t9
    refine x_get (v := rv (fR h11 x0 10)) fdX0_142 dX0_read_43 t13 rfl ?_
    refine x_aload_n 0 dX0_read_46 rfl ?_
    obtain ⟨g14, hq⟩ := hq
    obtain ⟨g15, g16, hq⟩ := hq
    refine x_callVN (Yc := YX5_program) (as := [rv x7]) (st := [rv x0]) (List.mem_filter.mpr ⟨q2003, rfl⟩) mvX5_program g14 rfl dX0_read_47 (xle (xal1 (rv_cat _) (xal1 (rv_cat _) xal0)) (by decide)) (xfr g15) (xlo (xsw1 (rv_cat _) xsw0) (by decide) g16) (xKr hq (fun x18 h17 hq e19 => ?_) (fun _ _ q _ => q))
    replace hq := hq e19
    have t20 : tg h17 x0 = 1 := e19.tg t13 (by decide)
    obtain ⟨h21, e22⟩ : ∃ y, y = sR h17 x0 12 x18 := ⟨_, rfl⟩
    replace hq := hq h21 e22
    refine x_putR fdX0_184 xty_O dX0_read_50 t20 (Or.inl (by rw [t20]; rfl)) rfl e22 ?_
    refine x_aload_n 1 dX0_read_53 rfl ?_
    refine x_iconst (v := 0) dX0_read_54 (by decide) ?_
    have t23 : tg h21 x0 = 1 := by rw [e22]; exact t20
    obtain ⟨h24, e25⟩ : ∃ y, y = sI h21 x0 14 0 := ⟨_, rfl⟩
    replace hq := hq h24 e25
    refine x_putI fdX0_217 xty_I1 dX0_read_55 t23 (Or.inl (by rw [t23]; rfl)) xnI rfl e25 ?_
    refine x_aload_n 1 dX0_read_58 rfl ?_
    refine x_iconst (v := (-1)) dX0_read_59 (by decide) ?_
    have t26 : tg h24 x0 = 1 := by rw [e25]; exact t23
    obtain ⟨h27, e28⟩ : ∃ y, y = sI h24 x0 16 (-1) := ⟨_, rfl⟩
    replace hq := hq h27 e28
    refine x_putI fdX0_158 xty_I1 dX0_read_60 t26 (Or.inl (by rw [t26]; rfl)) xnI rfl e28 ?_
    refine x_aload_n 1 dX0_read_63 rfl ?_
    refine x_iconst (v := (-1)) dX0_read_64 (by decide) ?_
    have t29 : tg h27 x0 = 1 := by rw [e28]; exact t26
    obtain ⟨h30, e31⟩ : ∃ y, y = sI h27 x0 17 (-1) := ⟨_, rfl⟩
    replace hq := hq h30 e31
    refine x_putI fdX0_162 xty_I1 dX0_read_65 t29 (Or.inl (by rw [t29]; rfl)) xnI rfl e31 ?_
    refine x_aload_n 0 dX0_read_68 rfl ?_
    obtain ⟨g32, hq⟩ := hq
    refine x_getN (v := rv (fR h30 x7 3842)) gfX0_220 dX0_read_69 g32 rfl ?_
    obtain ⟨g33, hq⟩ := hq
    refine x_getN (v := rv (fR h30 (fR h30 x7 3842) 3842)) gfX0_220 dX0_read_72 g33 rfl ?_
    refine x_astore_n (lv' := [(3, rv (fR h30 (fR h30 x7 3842) 3842)), (2, rv x7), (0, rv x0), (1, .int x1)]) dX0_read_75 (by decide) (by first | rfl | (simp [rv_cat, Value.category]; done) | (simp [rv_cat, Value.category]; decide)) ?_
    refine xP.pick (lv' := [(0, rv x0), (3, rv (fR h30 (fR h30 x7 3842) 3842))]) [2, 0] rfl ?_
    exact hq
  · replace hq := hq.2 c1
    refine x_aload_n 0 dX0_read_7 rfl ?_
    obtain ⟨g34, hq⟩ := hq
    refine x_get (v := rv (fR h x0 7)) fdX0_112 dX0_read_8 g34 rfl ?_
    refine x_iconst (v := 1) dX0_read_11 (by decide) ?_
    refine x_sipush (v := 10000) dX0_read_12 (by decide) ?_
    obtain ⟨g35, hq⟩ := hq
    obtain ⟨g36, g37, hq⟩ := hq
    refine x_callV (Yc := YX1_at) (as := [.int 1, .int 10000]) (st := []) q1495 mvX1_at g35 rfl dX0_read_15 (xle (xal1 (rv_cat _) (xal1 rfl (xal1 rfl xal0))) (by decide)) (xfr g36) (xlo xsw0 (by decide) g37) (xKr hq (fun x39 h38 hq e40 => ?_) (fun _ _ q _ => q))
    replace hq := hq e40
    obtain ⟨r41, g42, hq⟩ := hq
    rw [g42]
    exact x_athrow dX0_read_18 hq
theorem rX0_read {G : xG} {fr lo : Nat} {x0 : Nat} {x1 : Int32} {h : xH} {Q : Outcome → xH → Prop} (hq : bX0_read G fr lo x0 x1 h Q) : xR G YX0_read fr lo [rv x0, .int x1] h Q := by
  show xP _ _ _ _ _ (lv_args 0 _) _ _ _
  rw [show lv_args 0 [rv x0, .int x1] = [(0, rv x0), (1, .int x1)] from (xla1 (rv_cat _) (xla1 rfl xla0))]
  exact uX0_read hq
set_option maxRecDepth 100000 in
theorem dX0_isLetter_0 : decode cX0_isLetter 0 = .ok (.iload_n 0, 1) := by decide +kernel
set_option maxRecDepth 100000 in
theorem dX0_isLetter_1 : decode cX0_isLetter 1 = .ok (.bipush 97, 2) := by decide +kernel
set_option maxRecDepth 100000 in
theorem dX0_isLetter_3 : decode cX0_isLetter 3 = .ok (.if_icmp .lt 9, 3) := by decide +kernel
set_option maxRecDepth 100000 in
theorem dX0_isLetter_6 : decode cX0_isLetter 6 = .ok (.iload_n 0, 1) := by decide +kernel
set_option maxRecDepth 100000 in
theorem dX0_isLetter_7 : decode cX0_isLetter 7 = .ok (.bipush 122, 2) := by decide +kernel
set_option maxRecDepth 100000 in
theorem dX0_isLetter_9 : decode cX0_isLetter 9 = .ok (.if_icmp .le 15, 3) := by decide +kernel
set_option maxRecDepth 100000 in
theorem dX0_isLetter_12 : decode cX0_isLetter 12 = .ok (.iload_n 0, 1) := by decide +kernel
set_option maxRecDepth 100000 in
theorem dX0_isLetter_13 : decode cX0_isLetter 13 = .ok (.bipush 65, 2) := by decide +kernel
set_option maxRecDepth 100000 in
theorem dX0_isLetter_15 : decode cX0_isLetter 15 = .ok (.if_icmp .lt 13, 3) := by decide +kernel
set_option maxRecDepth 100000 in
theorem dX0_isLetter_18 : decode cX0_isLetter 18 = .ok (.iload_n 0, 1) := by decide +kernel
set_option maxRecDepth 100000 in
theorem dX0_isLetter_19 : decode cX0_isLetter 19 = .ok (.bipush 90, 2) := by decide +kernel
set_option maxRecDepth 100000 in
theorem dX0_isLetter_21 : decode cX0_isLetter 21 = .ok (.if_icmp .gt 7, 3) := by decide +kernel
set_option maxRecDepth 100000 in
theorem dX0_isLetter_24 : decode cX0_isLetter 24 = .ok (.iconst 1, 1) := by decide +kernel
set_option maxRecDepth 100000 in
theorem dX0_isLetter_25 : decode cX0_isLetter 25 = .ok (.goto 4, 3) := by decide +kernel
set_option maxRecDepth 100000 in
theorem dX0_isLetter_28 : decode cX0_isLetter 28 = .ok (.iconst 0, 1) := by decide +kernel
set_option maxRecDepth 100000 in
theorem dX0_isLetter_29 : decode cX0_isLetter 29 = .ok (.ireturn, 1) := by decide +kernel
set_option maxRecDepth 100000 in
def bX0_isLetter_29 (G : xG) (fr lo : Nat) (s0 : Int32) (h : xH) (Q : Outcome → xH → Prop) : Prop := xbz s0 ∧ Q (.returned (some (.int s0))) h
set_option maxRecDepth 100000 in
theorem uX0_isLetter_29 {G : xG} {fr lo : Nat} {s0 : Int32} {h : xH} {Q : Outcome → xH → Prop} (hq : bX0_isLetter_29 G fr lo s0 h Q) : xP G YX0_isLetter fr lo 29 [] [.int s0] h Q := by
  unfold bX0_isLetter_29 at hq
  obtain ⟨g1, hq⟩ := hq
  exact x_iret rfl (xnZ g1) dX0_isLetter_29 hq
set_option maxRecDepth 100000 in
def bX0_isLetter_28 (G : xG) (fr lo : Nat) (h : xH) (Q : Outcome → xH → Prop) : Prop := bX0_isLetter_29 G fr lo 0 h Q
set_option maxRecDepth 100000 in
theorem uX0_isLetter_28 {G : xG} {fr lo : Nat} {h : xH} {Q : Outcome → xH → Prop} (hq : bX0_isLetter_28 G fr lo h Q) : xP G YX0_isLetter fr lo 28 [] [] h Q := by
  unfold bX0_isLetter_28 at hq
  refine x_iconst (v := 0) dX0_isLetter_28 (by decide) ?_
  exact uX0_isLetter_29 hq
set_option maxRecDepth 100000 in
def bX0_isLetter_24 (G : xG) (fr lo : Nat) (h : xH) (Q : Outcome → xH → Prop) : Prop := bX0_isLetter_29 G fr lo 1 h Q
set_option maxRecDepth 100000 in
theorem uX0_isLetter_24 {G : xG} {fr lo : Nat} {h : xH} {Q : Outcome → xH → Prop} (hq : bX0_isLetter_24 G fr lo h Q) : xP G YX0_isLetter fr lo 24 [] [] h Q := by
  unfold bX0_isLetter_24 at hq
  refine x_iconst (v := 1) dX0_isLetter_24 (by decide) ?_
  refine x_goto (tgt := 29) dX0_isLetter_25 (by decide) ?_
  exact uX0_isLetter_29 hq
set_option maxRecDepth 100000 in
def bX0_isLetter_12 (G : xG) (fr lo : Nat) (x0 : Int32) (h : xH) (Q : Outcome → xH → Prop) : Prop := ((x0 < 65 → bX0_isLetter_28 G fr lo h Q) ∧ (¬ x0 < 65 → ((90 < x0 → bX0_isLetter_28 G fr lo h Q) ∧ (¬ 90 < x0 → bX0_isLetter_24 G fr lo h Q))))
set_option maxRecDepth 100000 in
theorem uX0_isLetter_12 {G : xG} {fr lo : Nat} {x0 : Int32} {h : xH} {Q : Outcome → xH → Prop} (hq : bX0_isLetter_12 G fr lo x0 h Q) : xP G YX0_isLetter fr lo 12 [(0, .int x0)] [] h Q := by
  unfold bX0_isLetter_12 at hq
  refine x_iload_n 0 dX0_isLetter_12 rfl ?_
  refine x_bipush (v := 65) dX0_isLetter_13 (by decide) ?_
  refine x_icmp_lt (tgt := 28) dX0_isLetter_15 (by decide) (fun c1 => ?_) (fun c1 => ?_)
  · replace hq := hq.1 c1
    refine xP.pick (lv' := []) [] rfl ?_
    exact uX0_isLetter_28 hq
  · replace hq := hq.2 c1
    refine x_iload_n 0 dX0_isLetter_18 rfl ?_
    refine x_bipush (v := 90) dX0_isLetter_19 (by decide) ?_
    refine x_icmp_gt (tgt := 28) dX0_isLetter_21 (by decide) (fun c2 => ?_) (fun c2 => ?_)
    · replace hq := hq.1 c2
      refine xP.pick (lv' := []) [] rfl ?_
      exact uX0_isLetter_28 hq
    · replace hq := hq.2 c2
      refine xP.pick (lv' := []) [] rfl ?_
      exact uX0_isLetter_24 hq
set_option maxRecDepth 100000 in
def bX0_isLetter (G : xG) (fr lo : Nat) (x0 : Int32) (h : xH) (Q : Outcome → xH → Prop) : Prop := ((x0 < 97 → bX0_isLetter_12 G fr lo x0 h Q) ∧ (¬ x0 < 97 → ((x0 ≤ 122 → bX0_isLetter_24 G fr lo h Q) ∧ (¬ x0 ≤ 122 → bX0_isLetter_12 G fr lo x0 h Q))))
set_option maxRecDepth 100000 in
theorem uX0_isLetter {G : xG} {fr lo : Nat} {x0 : Int32} {h : xH} {Q : Outcome → xH → Prop} (hq : bX0_isLetter G fr lo x0 h Q) : xP G YX0_isLetter fr lo 0 [(0, .int x0)] [] h Q := by
  unfold bX0_isLetter at hq
  refine x_iload_n 0 dX0_isLetter_0 rfl ?_
  refine x_bipush (v := 97) dX0_isLetter_1 (by decide) ?_
  refine x_icmp_lt (tgt := 12) dX0_isLetter_3 (by decide) (fun c1 => ?_) (fun c1 => ?_)
  · replace hq := hq.1 c1
    exact uX0_isLetter_12 hq
  · replace hq := hq.2 c1
    refine x_iload_n 0 dX0_isLetter_6 rfl ?_
    refine x_bipush (v := 122) dX0_isLetter_7 (by decide) ?_
    refine x_icmp_le (tgt := 24) dX0_isLetter_9 (by decide) (fun c2 => ?_) (fun c2 => ?_)
    · replace hq := hq.1 c2
      refine xP.pick (lv' := []) [] rfl ?_
      exact uX0_isLetter_24 hq
    · replace hq := hq.2 c2
      exact uX0_isLetter_12 hq
theorem rX0_isLetter {G : xG} {fr lo : Nat} {x0 : Int32} {h : xH} {Q : Outcome → xH → Prop} (hq : bX0_isLetter G fr lo x0 h Q) : xR G YX0_isLetter fr lo [.int x0] h Q := by
  show xP _ _ _ _ _ (lv_args 0 _) _ _ _
  rw [show lv_args 0 [.int x0] = [(0, .int x0)] from (xla1 rfl xla0)]
  exact uX0_isLetter hq
set_option maxRecDepth 100000 in
theorem dX0_isDigit_0 : decode cX0_isDigit 0 = .ok (.iload_n 0, 1) := by decide +kernel
set_option maxRecDepth 100000 in
theorem dX0_isDigit_1 : decode cX0_isDigit 1 = .ok (.bipush 48, 2) := by decide +kernel
set_option maxRecDepth 100000 in
theorem dX0_isDigit_3 : decode cX0_isDigit 3 = .ok (.if_icmp .lt 13, 3) := by decide +kernel
set_option maxRecDepth 100000 in
theorem dX0_isDigit_6 : decode cX0_isDigit 6 = .ok (.iload_n 0, 1) := by decide +kernel
set_option maxRecDepth 100000 in
theorem dX0_isDigit_7 : decode cX0_isDigit 7 = .ok (.bipush 57, 2) := by decide +kernel
set_option maxRecDepth 100000 in
theorem dX0_isDigit_9 : decode cX0_isDigit 9 = .ok (.if_icmp .gt 7, 3) := by decide +kernel
set_option maxRecDepth 100000 in
theorem dX0_isDigit_12 : decode cX0_isDigit 12 = .ok (.iconst 1, 1) := by decide +kernel
set_option maxRecDepth 100000 in
theorem dX0_isDigit_13 : decode cX0_isDigit 13 = .ok (.goto 4, 3) := by decide +kernel
set_option maxRecDepth 100000 in
theorem dX0_isDigit_16 : decode cX0_isDigit 16 = .ok (.iconst 0, 1) := by decide +kernel
set_option maxRecDepth 100000 in
theorem dX0_isDigit_17 : decode cX0_isDigit 17 = .ok (.ireturn, 1) := by decide +kernel
set_option maxRecDepth 100000 in
def bX0_isDigit_17 (G : xG) (fr lo : Nat) (s0 : Int32) (h : xH) (Q : Outcome → xH → Prop) : Prop := xbz s0 ∧ Q (.returned (some (.int s0))) h
set_option maxRecDepth 100000 in
theorem uX0_isDigit_17 {G : xG} {fr lo : Nat} {s0 : Int32} {h : xH} {Q : Outcome → xH → Prop} (hq : bX0_isDigit_17 G fr lo s0 h Q) : xP G YX0_isDigit fr lo 17 [] [.int s0] h Q := by
  unfold bX0_isDigit_17 at hq
  obtain ⟨g1, hq⟩ := hq
  exact x_iret rfl (xnZ g1) dX0_isDigit_17 hq
set_option maxRecDepth 100000 in
def bX0_isDigit_16 (G : xG) (fr lo : Nat) (h : xH) (Q : Outcome → xH → Prop) : Prop := bX0_isDigit_17 G fr lo 0 h Q
set_option maxRecDepth 100000 in
theorem uX0_isDigit_16 {G : xG} {fr lo : Nat} {h : xH} {Q : Outcome → xH → Prop} (hq : bX0_isDigit_16 G fr lo h Q) : xP G YX0_isDigit fr lo 16 [] [] h Q := by
  unfold bX0_isDigit_16 at hq
  refine x_iconst (v := 0) dX0_isDigit_16 (by decide) ?_
  exact uX0_isDigit_17 hq
set_option maxRecDepth 100000 in
def bX0_isDigit (G : xG) (fr lo : Nat) (x0 : Int32) (h : xH) (Q : Outcome → xH → Prop) : Prop := ((x0 < 48 → bX0_isDigit_16 G fr lo h Q) ∧ (¬ x0 < 48 → ((57 < x0 → bX0_isDigit_16 G fr lo h Q) ∧ (¬ 57 < x0 → bX0_isDigit_17 G fr lo 1 h Q))))
set_option maxRecDepth 100000 in
theorem uX0_isDigit {G : xG} {fr lo : Nat} {x0 : Int32} {h : xH} {Q : Outcome → xH → Prop} (hq : bX0_isDigit G fr lo x0 h Q) : xP G YX0_isDigit fr lo 0 [(0, .int x0)] [] h Q := by
  unfold bX0_isDigit at hq
  refine x_iload_n 0 dX0_isDigit_0 rfl ?_
  refine x_bipush (v := 48) dX0_isDigit_1 (by decide) ?_
  refine x_icmp_lt (tgt := 16) dX0_isDigit_3 (by decide) (fun c1 => ?_) (fun c1 => ?_)
  · replace hq := hq.1 c1
    refine xP.pick (lv' := []) [] rfl ?_
    exact uX0_isDigit_16 hq
  · replace hq := hq.2 c1
    refine x_iload_n 0 dX0_isDigit_6 rfl ?_
    refine x_bipush (v := 57) dX0_isDigit_7 (by decide) ?_
    refine x_icmp_gt (tgt := 16) dX0_isDigit_9 (by decide) (fun c2 => ?_) (fun c2 => ?_)
    · replace hq := hq.1 c2
      refine xP.pick (lv' := []) [] rfl ?_
      exact uX0_isDigit_16 hq
    · replace hq := hq.2 c2
      refine x_iconst (v := 1) dX0_isDigit_12 (by decide) ?_
      refine x_goto (tgt := 17) dX0_isDigit_13 (by decide) ?_
      refine xP.pick (lv' := []) [] rfl ?_
      exact uX0_isDigit_17 hq
theorem rX0_isDigit {G : xG} {fr lo : Nat} {x0 : Int32} {h : xH} {Q : Outcome → xH → Prop} (hq : bX0_isDigit G fr lo x0 h Q) : xR G YX0_isDigit fr lo [.int x0] h Q := by
  show xP _ _ _ _ _ (lv_args 0 _) _ _ _
  rw [show lv_args 0 [.int x0] = [(0, .int x0)] from (xla1 rfl xla0)]
  exact uX0_isDigit hq
set_option maxRecDepth 100000 in
theorem dX0_small_0 : decode cX0_small 0 = .ok (.iload_n 0, 1) := by decide +kernel
set_option maxRecDepth 100000 in
theorem dX0_small_1 : decode cX0_small 1 = .ok (.bipush 65, 2) := by decide +kernel
set_option maxRecDepth 100000 in
theorem dX0_small_3 : decode cX0_small 3 = .ok (.if_icmp .lt 16, 3) := by decide +kernel
set_option maxRecDepth 100000 in
theorem dX0_small_6 : decode cX0_small 6 = .ok (.iload_n 0, 1) := by decide +kernel
set_option maxRecDepth 100000 in
theorem dX0_small_7 : decode cX0_small 7 = .ok (.bipush 90, 2) := by decide +kernel
set_option maxRecDepth 100000 in
theorem dX0_small_9 : decode cX0_small 9 = .ok (.if_icmp .gt 10, 3) := by decide +kernel
set_option maxRecDepth 100000 in
theorem dX0_small_12 : decode cX0_small 12 = .ok (.iload_n 0, 1) := by decide +kernel
set_option maxRecDepth 100000 in
theorem dX0_small_13 : decode cX0_small 13 = .ok (.bipush 32, 2) := by decide +kernel
set_option maxRecDepth 100000 in
theorem dX0_small_15 : decode cX0_small 15 = .ok (.iadd, 1) := by decide +kernel
set_option maxRecDepth 100000 in
theorem dX0_small_16 : decode cX0_small 16 = .ok (.goto 4, 3) := by decide +kernel
set_option maxRecDepth 100000 in
theorem dX0_small_19 : decode cX0_small 19 = .ok (.iload_n 0, 1) := by decide +kernel
set_option maxRecDepth 100000 in
theorem dX0_small_20 : decode cX0_small 20 = .ok (.ireturn, 1) := by decide +kernel
set_option maxRecDepth 100000 in
def bX0_small_20 (G : xG) (fr lo : Nat) (s0 : Int32) (h : xH) (Q : Outcome → xH → Prop) : Prop := Q (.returned (some (.int s0))) h
set_option maxRecDepth 100000 in
theorem uX0_small_20 {G : xG} {fr lo : Nat} {s0 : Int32} {h : xH} {Q : Outcome → xH → Prop} (hq : bX0_small_20 G fr lo s0 h Q) : xP G YX0_small fr lo 20 [] [.int s0] h Q := by
  unfold bX0_small_20 at hq
  exact x_iret rfl rfl dX0_small_20 hq
set_option maxRecDepth 100000 in
def bX0_small_19 (G : xG) (fr lo : Nat) (x0 : Int32) (h : xH) (Q : Outcome → xH → Prop) : Prop := bX0_small_20 G fr lo x0 h Q
set_option maxRecDepth 100000 in
theorem uX0_small_19 {G : xG} {fr lo : Nat} {x0 : Int32} {h : xH} {Q : Outcome → xH → Prop} (hq : bX0_small_19 G fr lo x0 h Q) : xP G YX0_small fr lo 19 [(0, .int x0)] [] h Q := by
  unfold bX0_small_19 at hq
  refine x_iload_n 0 dX0_small_19 rfl ?_
  refine xP.pick (lv' := []) [] rfl ?_
  exact uX0_small_20 hq
set_option maxRecDepth 100000 in
def bX0_small (G : xG) (fr lo : Nat) (x0 : Int32) (h : xH) (Q : Outcome → xH → Prop) : Prop := ((x0 < 65 → bX0_small_19 G fr lo x0 h Q) ∧ (¬ x0 < 65 → ((90 < x0 → bX0_small_19 G fr lo x0 h Q) ∧ (¬ 90 < x0 → bX0_small_20 G fr lo (x0 + 32) h Q))))
set_option maxRecDepth 100000 in
theorem uX0_small {G : xG} {fr lo : Nat} {x0 : Int32} {h : xH} {Q : Outcome → xH → Prop} (hq : bX0_small G fr lo x0 h Q) : xP G YX0_small fr lo 0 [(0, .int x0)] [] h Q := by
  unfold bX0_small at hq
  refine x_iload_n 0 dX0_small_0 rfl ?_
  refine x_bipush (v := 65) dX0_small_1 (by decide) ?_
  refine x_icmp_lt (tgt := 19) dX0_small_3 (by decide) (fun c1 => ?_) (fun c1 => ?_)
  · replace hq := hq.1 c1
    exact uX0_small_19 hq
  · replace hq := hq.2 c1
    refine x_iload_n 0 dX0_small_6 rfl ?_
    refine x_bipush (v := 90) dX0_small_7 (by decide) ?_
    refine x_icmp_gt (tgt := 19) dX0_small_9 (by decide) (fun c2 => ?_) (fun c2 => ?_)
    · replace hq := hq.1 c2
      exact uX0_small_19 hq
    · replace hq := hq.2 c2
      refine x_iload_n 0 dX0_small_12 rfl ?_
      refine x_bipush (v := 32) dX0_small_13 (by decide) ?_
      refine x_iadd dX0_small_15 ?_
      refine x_goto (tgt := 20) dX0_small_16 (by decide) ?_
      refine xP.pick (lv' := []) [] rfl ?_
      exact uX0_small_20 hq
theorem rX0_small {G : xG} {fr lo : Nat} {x0 : Int32} {h : xH} {Q : Outcome → xH → Prop} (hq : bX0_small G fr lo x0 h Q) : xR G YX0_small fr lo [.int x0] h Q := by
  show xP _ _ _ _ _ (lv_args 0 _) _ _ _
  rw [show lv_args 0 [.int x0] = [(0, .int x0)] from (xla1 rfl xla0)]
  exact uX0_small hq
set_option maxRecDepth 100000 in
theorem dX0_realOf_0 : decode cX0_realOf 0 = .ok (.lload_n 0, 1) := by decide +kernel
set_option maxRecDepth 100000 in
theorem dX0_realOf_1 : decode cX0_realOf 1 = .ok (.l2d, 1) := by decide +kernel
set_option maxRecDepth 100000 in
theorem dX0_realOf_2 : decode cX0_realOf 2 = .ok (.iload_n 2, 1) := by decide +kernel
set_option maxRecDepth 100000 in
theorem dX0_realOf_3 : decode cX0_realOf 3 = .ok (.invokestatic 3, 3) := by decide +kernel
set_option maxRecDepth 100000 in
theorem dX0_realOf_6 : decode cX0_realOf 6 = .ok (.ddiv, 1) := by decide +kernel
set_option maxRecDepth 100000 in
theorem dX0_realOf_7 : decode cX0_realOf 7 = .ok (.dstore 4, 2) := by decide +kernel
set_option maxRecDepth 100000 in
theorem dX0_realOf_9 : decode cX0_realOf 9 = .ok (.iload_n 3, 1) := by decide +kernel
set_option maxRecDepth 100000 in
theorem dX0_realOf_10 : decode cX0_realOf 10 = .ok (.ifCond .ge 14, 3) := by decide +kernel
set_option maxRecDepth 100000 in
theorem dX0_realOf_13 : decode cX0_realOf 13 = .ok (.dload 4, 2) := by decide +kernel
set_option maxRecDepth 100000 in
theorem dX0_realOf_15 : decode cX0_realOf 15 = .ok (.iload_n 3, 1) := by decide +kernel
set_option maxRecDepth 100000 in
theorem dX0_realOf_16 : decode cX0_realOf 16 = .ok (.ineg, 1) := by decide +kernel
set_option maxRecDepth 100000 in
theorem dX0_realOf_17 : decode cX0_realOf 17 = .ok (.invokestatic 3, 3) := by decide +kernel
set_option maxRecDepth 100000 in
theorem dX0_realOf_20 : decode cX0_realOf 20 = .ok (.ddiv, 1) := by decide +kernel
set_option maxRecDepth 100000 in
theorem dX0_realOf_21 : decode cX0_realOf 21 = .ok (.goto 10, 3) := by decide +kernel
set_option maxRecDepth 100000 in
theorem dX0_realOf_24 : decode cX0_realOf 24 = .ok (.dload 4, 2) := by decide +kernel
set_option maxRecDepth 100000 in
theorem dX0_realOf_26 : decode cX0_realOf 26 = .ok (.iload_n 3, 1) := by decide +kernel
set_option maxRecDepth 100000 in
theorem dX0_realOf_27 : decode cX0_realOf 27 = .ok (.invokestatic 3, 3) := by decide +kernel
set_option maxRecDepth 100000 in
theorem dX0_realOf_30 : decode cX0_realOf 30 = .ok (.dmul, 1) := by decide +kernel
set_option maxRecDepth 100000 in
theorem dX0_realOf_31 : decode cX0_realOf 31 = .ok (.dreturn, 1) := by decide +kernel
set_option maxRecDepth 100000 in
def bX0_realOf_31 (G : xG) (fr lo : Nat) (s0 : UInt64) (h : xH) (Q : Outcome → xH → Prop) : Prop := Q (.returned (some (.double s0))) h
set_option maxRecDepth 100000 in
theorem uX0_realOf_31 {G : xG} {fr lo : Nat} {s0 : UInt64} {h : xH} {Q : Outcome → xH → Prop} (hq : bX0_realOf_31 G fr lo s0 h Q) : xP G YX0_realOf fr lo 31 [] [.double s0] h Q := by
  unfold bX0_realOf_31 at hq
  exact x_dret rfl dX0_realOf_31 hq
set_option maxRecDepth 100000 in
def bX0_realOf (G : xG) (fr lo : Nat) (x0 : Int64) (x2 : Int32) (x3 : Int32) (h : xH) (Q : Outcome → xH → Prop) : Prop := 1 ≤ fr ∧ 17 ≤ lo ∧ xRd G YX0_power (fr - 1) (lo - 17) [.int x2] h (fun x4 h3 => xext h h3 → vf_n64 (FP.ddiv (FP.l2d x0) x4) ∧ ((0 ≤ x3 → 1 ≤ fr ∧ 17 ≤ lo ∧ xRd G YX0_power (fr - 1) (lo - 17) [.int x3] h3 (fun x11 h10 => xext h3 h10 → vf_n64 (FP.dmul (FP.ddiv (FP.l2d x0) x4) x11) ∧ bX0_realOf_31 G fr lo (FP.dmul (FP.ddiv (FP.l2d x0) x4) x11) h10 Q) (fun r h2 => Q (.threw r) h2)) ∧ (¬ 0 ≤ x3 → 1 ≤ fr ∧ 17 ≤ lo ∧ xRd G YX0_power (fr - 1) (lo - 17) [.int (-x3)] h3 (fun x17 h16 => xext h3 h16 → vf_n64 (FP.ddiv (FP.ddiv (FP.l2d x0) x4) x17) ∧ bX0_realOf_31 G fr lo (FP.ddiv (FP.ddiv (FP.l2d x0) x4) x17) h16 Q) (fun r h2 => Q (.threw r) h2)))) (fun r h2 => Q (.threw r) h2)
set_option maxRecDepth 100000 in
theorem uX0_realOf {G : xG} {fr lo : Nat} {x0 : Int64} {x2 : Int32} {x3 : Int32} {h : xH} {Q : Outcome → xH → Prop} (hq : bX0_realOf G fr lo x0 x2 x3 h Q) : xP G YX0_realOf fr lo 0 [(0, .long x0), (2, .int x2), (3, .int x3)] [] h Q := by
  unfold bX0_realOf at hq
  refine x_lload_n 0 dX0_realOf_0 rfl ?_
  refine x_l2d dX0_realOf_1 ?_
  refine x_iload_n 1 dX0_realOf_2 rfl ?_
  obtain ⟨g1, g2, hq⟩ := hq
  refine x_callS (Yc := YX0_power) (as := [.int x2]) (st := [.double (FP.l2d x0)]) q1671 msX0_power rfl dX0_realOf_3 (xle (xal1 rfl xal0) (by decide)) (xfr g1) (xlo (xsw2 rfl xsw0) (by decide) g2) (xKd hq (fun x4 h3 hq e5 => ?_) (fun _ _ q _ => q))
  replace hq := hq e5
  obtain ⟨g6, hq⟩ := hq
  refine x_ddiv dX0_realOf_6 g6 ?_
  refine x_dstore (lv' := [(4, .double (FP.ddiv (FP.l2d x0) x4)), (0, .long x0), (2, .int x2), (3, .int x3)]) dX0_realOf_7 (by decide) rfl ?_
  refine x_iload_n 3 dX0_realOf_9 rfl ?_
  refine x_if_ge (tgt := 24) dX0_realOf_10 (by decide) (fun c7 => ?_) (fun c7 => ?_)
  · replace hq := hq.1 c7
    refine x_dload 0 dX0_realOf_24 rfl ?_
    refine x_iload_n 3 dX0_realOf_26 rfl ?_
    obtain ⟨g8, g9, hq⟩ := hq
    refine x_callS (Yc := YX0_power) (as := [.int x3]) (st := [.double (FP.ddiv (FP.l2d x0) x4)]) q1671 msX0_power rfl dX0_realOf_27 (xle (xal1 rfl xal0) (by decide)) (xfr g8) (xlo (xsw2 rfl xsw0) (by decide) g9) (xKd hq (fun x11 h10 hq e12 => ?_) (fun _ _ q _ => q))
    replace hq := hq e12
    obtain ⟨g13, hq⟩ := hq
    refine x_dmul dX0_realOf_30 g13 ?_
    refine xP.pick (lv' := []) [] rfl ?_
    exact uX0_realOf_31 hq
  · replace hq := hq.2 c7
    refine x_dload 0 dX0_realOf_13 rfl ?_
    refine x_iload_n 3 dX0_realOf_15 rfl ?_
    refine x_ineg dX0_realOf_16 ?_
    obtain ⟨g14, g15, hq⟩ := hq
    refine x_callS (Yc := YX0_power) (as := [.int (-x3)]) (st := [.double (FP.ddiv (FP.l2d x0) x4)]) q1671 msX0_power rfl dX0_realOf_17 (xle (xal1 rfl xal0) (by decide)) (xfr g14) (xlo (xsw2 rfl xsw0) (by decide) g15) (xKd hq (fun x17 h16 hq e18 => ?_) (fun _ _ q _ => q))
    replace hq := hq e18
    obtain ⟨g19, hq⟩ := hq
    refine x_ddiv dX0_realOf_20 g19 ?_
    refine x_goto (tgt := 31) dX0_realOf_21 (by decide) ?_
    refine xP.pick (lv' := []) [] rfl ?_
    exact uX0_realOf_31 hq
theorem rX0_realOf {G : xG} {fr lo : Nat} {x0 : Int64} {x2 : Int32} {x3 : Int32} {h : xH} {Q : Outcome → xH → Prop} (hq : bX0_realOf G fr lo x0 x2 x3 h Q) : xR G YX0_realOf fr lo [.long x0, .int x2, .int x3] h Q := by
  show xP _ _ _ _ _ (lv_args 0 _) _ _ _
  rw [show lv_args 0 [.long x0, .int x2, .int x3] = [(0, .long x0), (2, .int x2), (3, .int x3)] from (xla2 rfl (xla1 rfl (xla1 rfl xla0)))]
  exact uX0_realOf hq
set_option maxRecDepth 100000 in
theorem dX0_power_0 : decode cX0_power 0 = .ok (.dconst 1, 1) := by decide +kernel
set_option maxRecDepth 100000 in
theorem dX0_power_1 : decode cX0_power 1 = .ok (.dstore_n 1, 1) := by decide +kernel
set_option maxRecDepth 100000 in
theorem dX0_power_2 : decode cX0_power 2 = .ok (.iconst 0, 1) := by decide +kernel
set_option maxRecDepth 100000 in
theorem dX0_power_3 : decode cX0_power 3 = .ok (.istore_n 3, 1) := by decide +kernel
set_option maxRecDepth 100000 in
theorem dX0_power_4 : decode cX0_power 4 = .ok (.iload_n 3, 1) := by decide +kernel
set_option maxRecDepth 100000 in
theorem dX0_power_5 : decode cX0_power 5 = .ok (.iload_n 0, 1) := by decide +kernel
set_option maxRecDepth 100000 in
theorem dX0_power_6 : decode cX0_power 6 = .ok (.if_icmp .ge 15, 3) := by decide +kernel
set_option maxRecDepth 100000 in
theorem dX0_power_9 : decode cX0_power 9 = .ok (.dload_n 1, 1) := by decide +kernel
set_option maxRecDepth 100000 in
theorem dX0_power_10 : decode cX0_power 10 = .ok (.ldc2_w 1, 3) := by decide +kernel
set_option maxRecDepth 100000 in
theorem dX0_power_13 : decode cX0_power 13 = .ok (.dmul, 1) := by decide +kernel
set_option maxRecDepth 100000 in
theorem dX0_power_14 : decode cX0_power 14 = .ok (.dstore_n 1, 1) := by decide +kernel
set_option maxRecDepth 100000 in
theorem dX0_power_15 : decode cX0_power 15 = .ok (.iinc 3 1, 3) := by decide +kernel
set_option maxRecDepth 100000 in
theorem dX0_power_18 : decode cX0_power 18 = .ok (.goto (-14), 3) := by decide +kernel
set_option maxRecDepth 100000 in
theorem dX0_power_21 : decode cX0_power 21 = .ok (.dload_n 1, 1) := by decide +kernel
set_option maxRecDepth 100000 in
theorem dX0_power_22 : decode cX0_power 22 = .ok (.dreturn, 1) := by decide +kernel
def lX0_power_4 (G : xG) (fr lo : Nat) (x0 : Int32) (x1 : UInt64) (x3 : Int32) (h : xH) (Q : Outcome → xH → Prop) : Prop := xP G YX0_power fr lo 4 [(0, .int x0), (1, .double x1), (3, .int x3)] [] h Q
set_option maxRecDepth 100000 in
def bX0_power_4 (G : xG) (fr lo : Nat) (x0 : Int32) (x1 : UInt64) (x3 : Int32) (h : xH) (Q : Outcome → xH → Prop) : Prop := ((x0 ≤ x3 → Q (.returned (some (.double x1))) h) ∧ (¬ x0 ≤ x3 → vf_n64 (FP.dmul x1 4621819117588971520) ∧ lX0_power_4 G fr lo x0 (FP.dmul x1 4621819117588971520) (x3 + 1) h Q))
set_option maxRecDepth 100000 in
theorem uX0_power_4 {G : xG} {fr lo : Nat} {x0 : Int32} {x1 : UInt64} {x3 : Int32} {h : xH} {Q : Outcome → xH → Prop} (hq : bX0_power_4 G fr lo x0 x1 x3 h Q) : xP G YX0_power fr lo 4 [(0, .int x0), (1, .double x1), (3, .int x3)] [] h Q := by
  unfold bX0_power_4 at hq
  refine x_iload_n 2 dX0_power_4 rfl ?_
  refine x_iload_n 0 dX0_power_5 rfl ?_
  refine x_icmp_ge (tgt := 21) dX0_power_6 (by decide) (fun c1 => ?_) (fun c1 => ?_)
  · replace hq := hq.1 c1
    refine x_dload_n 1 dX0_power_21 rfl ?_
    exact x_dret rfl dX0_power_22 hq
  · replace hq := hq.2 c1
    refine x_dload_n 1 dX0_power_9 rfl ?_
    refine x_ldc2d (v := 4621819117588971520) q1674 dX0_power_10 ?_
    obtain ⟨g2, hq⟩ := hq
    refine x_dmul dX0_power_13 g2 ?_
    refine x_dstore_n (lv' := [(1, .double (FP.dmul x1 4621819117588971520)), (0, .int x0), (3, .int x3)]) dX0_power_14 (by decide) rfl ?_
    refine x_iinc (lv' := [(3, .int (x3 + 1)), (1, .double (FP.dmul x1 4621819117588971520)), (0, .int x0)]) 2 dX0_power_15 rfl (by decide) rfl ?_
    refine x_goto (tgt := 4) dX0_power_18 (by decide) ?_
    refine xP.pick (lv' := [(0, .int x0), (1, .double (FP.dmul x1 4621819117588971520)), (3, .int (x3 + 1))]) [2, 1, 0] rfl ?_
    exact hq
set_option maxRecDepth 100000 in
def bX0_power (G : xG) (fr lo : Nat) (x0 : Int32) (h : xH) (Q : Outcome → xH → Prop) : Prop := lX0_power_4 G fr lo x0 FP.dconst1 0 h Q
set_option maxRecDepth 100000 in
theorem uX0_power {G : xG} {fr lo : Nat} {x0 : Int32} {h : xH} {Q : Outcome → xH → Prop} (hq : bX0_power G fr lo x0 h Q) : xP G YX0_power fr lo 0 [(0, .int x0)] [] h Q := by
  unfold bX0_power at hq
  refine x_dconst1 dX0_power_0 ?_
  refine x_dstore_n (lv' := [(1, .double FP.dconst1), (0, .int x0)]) dX0_power_1 (by decide) rfl ?_
  refine x_iconst (v := 0) dX0_power_2 (by decide) ?_
  refine x_istore_n (lv' := [(3, .int 0), (1, .double FP.dconst1), (0, .int x0)]) dX0_power_3 (by decide) rfl ?_
  refine xP.pick (lv' := [(0, .int x0), (1, .double FP.dconst1), (3, .int 0)]) [2, 1, 0] rfl ?_
  exact hq
theorem rX0_power {G : xG} {fr lo : Nat} {x0 : Int32} {h : xH} {Q : Outcome → xH → Prop} (hq : bX0_power G fr lo x0 h Q) : xR G YX0_power fr lo [.int x0] h Q := by
  show xP _ _ _ _ _ (lv_args 0 _) _ _ _
  rw [show lv_args 0 [.int x0] = [(0, .int x0)] from (xla1 rfl xla0)]
  exact uX0_power hq
set_option maxRecDepth 100000 in
theorem dX0_isFinite_0 : decode cX0_isFinite 0 = .ok (.dload_n 0, 1) := by decide +kernel
set_option maxRecDepth 100000 in
theorem dX0_isFinite_1 : decode cX0_isFinite 1 = .ok (.ldc2_w 9, 3) := by decide +kernel
set_option maxRecDepth 100000 in
theorem dX0_isFinite_4 : decode cX0_isFinite 4 = .ok (.dcmp .l, 1) := by decide +kernel
set_option maxRecDepth 100000 in
theorem dX0_isFinite_5 : decode cX0_isFinite 5 = .ok (.ifCond .lt 15, 3) := by decide +kernel
set_option maxRecDepth 100000 in
theorem dX0_isFinite_8 : decode cX0_isFinite 8 = .ok (.dload_n 0, 1) := by decide +kernel
set_option maxRecDepth 100000 in
theorem dX0_isFinite_9 : decode cX0_isFinite 9 = .ok (.ldc2_w 11, 3) := by decide +kernel
set_option maxRecDepth 100000 in
theorem dX0_isFinite_12 : decode cX0_isFinite 12 = .ok (.dcmp .g, 1) := by decide +kernel
set_option maxRecDepth 100000 in
theorem dX0_isFinite_13 : decode cX0_isFinite 13 = .ok (.ifCond .gt 7, 3) := by decide +kernel
set_option maxRecDepth 100000 in
theorem dX0_isFinite_16 : decode cX0_isFinite 16 = .ok (.iconst 1, 1) := by decide +kernel
set_option maxRecDepth 100000 in
theorem dX0_isFinite_17 : decode cX0_isFinite 17 = .ok (.goto 4, 3) := by decide +kernel
set_option maxRecDepth 100000 in
theorem dX0_isFinite_20 : decode cX0_isFinite 20 = .ok (.iconst 0, 1) := by decide +kernel
set_option maxRecDepth 100000 in
theorem dX0_isFinite_21 : decode cX0_isFinite 21 = .ok (.ireturn, 1) := by decide +kernel
set_option maxRecDepth 100000 in
def bX0_isFinite_21 (G : xG) (fr lo : Nat) (s0 : Int32) (h : xH) (Q : Outcome → xH → Prop) : Prop := xbz s0 ∧ Q (.returned (some (.int s0))) h
set_option maxRecDepth 100000 in
theorem uX0_isFinite_21 {G : xG} {fr lo : Nat} {s0 : Int32} {h : xH} {Q : Outcome → xH → Prop} (hq : bX0_isFinite_21 G fr lo s0 h Q) : xP G YX0_isFinite fr lo 21 [] [.int s0] h Q := by
  unfold bX0_isFinite_21 at hq
  obtain ⟨g1, hq⟩ := hq
  exact x_iret rfl (xnZ g1) dX0_isFinite_21 hq
set_option maxRecDepth 100000 in
def bX0_isFinite_20 (G : xG) (fr lo : Nat) (h : xH) (Q : Outcome → xH → Prop) : Prop := bX0_isFinite_21 G fr lo 0 h Q
set_option maxRecDepth 100000 in
theorem uX0_isFinite_20 {G : xG} {fr lo : Nat} {h : xH} {Q : Outcome → xH → Prop} (hq : bX0_isFinite_20 G fr lo h Q) : xP G YX0_isFinite fr lo 20 [] [] h Q := by
  unfold bX0_isFinite_20 at hq
  refine x_iconst (v := 0) dX0_isFinite_20 (by decide) ?_
  exact uX0_isFinite_21 hq
set_option maxRecDepth 100000 in
def bX0_isFinite (G : xG) (fr lo : Nat) (x0 : UInt64) (h : xH) (Q : Outcome → xH → Prop) : Prop := (((Op.cmpValue (FP.dcmp x0 18442240474082181119) .l) < 0 → bX0_isFinite_20 G fr lo h Q) ∧ (¬ (Op.cmpValue (FP.dcmp x0 18442240474082181119) .l) < 0 → ((0 < (Op.cmpValue (FP.dcmp x0 9218868437227405311) .g) → bX0_isFinite_20 G fr lo h Q) ∧ (¬ 0 < (Op.cmpValue (FP.dcmp x0 9218868437227405311) .g) → bX0_isFinite_21 G fr lo 1 h Q))))
set_option maxRecDepth 100000 in
theorem uX0_isFinite {G : xG} {fr lo : Nat} {x0 : UInt64} {h : xH} {Q : Outcome → xH → Prop} (hq : bX0_isFinite G fr lo x0 h Q) : xP G YX0_isFinite fr lo 0 [(0, .double x0)] [] h Q := by
  unfold bX0_isFinite at hq
  refine x_dload_n 0 dX0_isFinite_0 rfl ?_
  refine x_ldc2d (v := 18442240474082181119) q1678 dX0_isFinite_1 ?_
  refine x_dcmp dX0_isFinite_4 ?_
  refine x_if_lt (tgt := 20) dX0_isFinite_5 (by decide) (fun c1 => ?_) (fun c1 => ?_)
  · replace hq := hq.1 c1
    refine xP.pick (lv' := []) [] rfl ?_
    exact uX0_isFinite_20 hq
  · replace hq := hq.2 c1
    refine x_dload_n 0 dX0_isFinite_8 rfl ?_
    refine x_ldc2d (v := 9218868437227405311) q1679 dX0_isFinite_9 ?_
    refine x_dcmp dX0_isFinite_12 ?_
    refine x_if_gt (tgt := 20) dX0_isFinite_13 (by decide) (fun c2 => ?_) (fun c2 => ?_)
    · replace hq := hq.1 c2
      refine xP.pick (lv' := []) [] rfl ?_
      exact uX0_isFinite_20 hq
    · replace hq := hq.2 c2
      refine x_iconst (v := 1) dX0_isFinite_16 (by decide) ?_
      refine x_goto (tgt := 21) dX0_isFinite_17 (by decide) ?_
      refine xP.pick (lv' := []) [] rfl ?_
      exact uX0_isFinite_21 hq
theorem rX0_isFinite {G : xG} {fr lo : Nat} {x0 : UInt64} {h : xH} {Q : Outcome → xH → Prop} (hq : bX0_isFinite G fr lo x0 h Q) : xR G YX0_isFinite fr lo [.double x0] h Q := by
  show xP _ _ _ _ _ (lv_args 0 _) _ _ _
  rw [show lv_args 0 [.double x0] = [(0, .double x0)] from (xla2 rfl xla0)]
  exact uX0_isFinite hq
set_option maxRecDepth 100000 in
theorem dX0_place_0 : decode cX0_place 0 = .ok (.aload_n 0, 1) := by decide +kernel
set_option maxRecDepth 100000 in
theorem dX0_place_1 : decode cX0_place 1 = .ok (.getfield 112, 3) := by decide +kernel
set_option maxRecDepth 100000 in
theorem dX0_place_4 : decode cX0_place 4 = .ok (.getfield 171, 3) := by decide +kernel
set_option maxRecDepth 100000 in
theorem dX0_place_7 : decode cX0_place 7 = .ok (.ireturn, 1) := by decide +kernel
set_option maxRecDepth 100000 in
def bX0_place (G : xG) (fr lo : Nat) (x0 : Nat) (h : xH) (Q : Outcome → xH → Prop) : Prop := tg h x0 = 1 ∧ tg h (fR h x0 7) = 2 ∧ Q (.returned (some (.int (fI h (fR h x0 7) 257)))) h
set_option maxRecDepth 100000 in
theorem uX0_place {G : xG} {fr lo : Nat} {x0 : Nat} {h : xH} {Q : Outcome → xH → Prop} (hq : bX0_place G fr lo x0 h Q) : xP G YX0_place fr lo 0 [(0, rv x0)] [] h Q := by
  unfold bX0_place at hq
  refine x_aload_n 0 dX0_place_0 rfl ?_
  obtain ⟨g1, hq⟩ := hq
  refine x_get (v := rv (fR h x0 7)) fdX0_112 dX0_place_1 g1 rfl ?_
  obtain ⟨g2, hq⟩ := hq
  refine x_getN (v := .int (fI h (fR h x0 7) 257)) gfX0_171 dX0_place_4 g2 rfl ?_
  exact x_iret rfl rfl dX0_place_7 hq
theorem rX0_place {G : xG} {fr lo : Nat} {x0 : Nat} {h : xH} {Q : Outcome → xH → Prop} (hq : bX0_place G fr lo x0 h Q) : xR G YX0_place fr lo [rv x0] h Q := by
  show xP _ _ _ _ _ (lv_args 0 _) _ _ _
  rw [show lv_args 0 [rv x0] = [(0, rv x0)] from (xla1 (rv_cat _) xla0)]
  exact uX0_place hq
set_option maxRecDepth 100000 in
theorem dX0_put_0 : decode cX0_put 0 = .ok (.aload_n 0, 1) := by decide +kernel
set_option maxRecDepth 100000 in
theorem dX0_put_1 : decode cX0_put 1 = .ok (.getfield 181, 3) := by decide +kernel
set_option maxRecDepth 100000 in
theorem dX0_put_4 : decode cX0_put 4 = .ok (.istore_n 2, 1) := by decide +kernel
set_option maxRecDepth 100000 in
theorem dX0_put_5 : decode cX0_put 5 = .ok (.aload_n 0, 1) := by decide +kernel
set_option maxRecDepth 100000 in
theorem dX0_put_6 : decode cX0_put 6 = .ok (.iconst 0, 1) := by decide +kernel
set_option maxRecDepth 100000 in
theorem dX0_put_7 : decode cX0_put 7 = .ok (.putfield 181, 3) := by decide +kernel
set_option maxRecDepth 100000 in
theorem dX0_put_10 : decode cX0_put 10 = .ok (.iload_n 1, 1) := by decide +kernel
set_option maxRecDepth 100000 in
theorem dX0_put_11 : decode cX0_put 11 = .ok (.ifCond .lt 16, 3) := by decide +kernel
set_option maxRecDepth 100000 in
theorem dX0_put_14 : decode cX0_put 14 = .ok (.iload_n 1, 1) := by decide +kernel
set_option maxRecDepth 100000 in
theorem dX0_put_15 : decode cX0_put 15 = .ok (.bipush 8, 2) := by decide +kernel
set_option maxRecDepth 100000 in
theorem dX0_put_17 : decode cX0_put 17 = .ok (.if_icmp .ge 10, 3) := by decide +kernel
set_option maxRecDepth 100000 in
theorem dX0_put_20 : decode cX0_put 20 = .ok (.iload_n 2, 1) := by decide +kernel
set_option maxRecDepth 100000 in
theorem dX0_put_21 : decode cX0_put 21 = .ok (.sipush 3000, 3) := by decide +kernel
set_option maxRecDepth 100000 in
theorem dX0_put_24 : decode cX0_put 24 = .ok (.if_icmp .le 5, 3) := by decide +kernel
set_option maxRecDepth 100000 in
theorem dX0_put_27 : decode cX0_put 27 = .ok (.iconst (-1), 1) := by decide +kernel
set_option maxRecDepth 100000 in
theorem dX0_put_28 : decode cX0_put 28 = .ok (.ireturn, 1) := by decide +kernel
set_option maxRecDepth 100000 in
theorem dX0_put_29 : decode cX0_put 29 = .ok (.iconst 1, 1) := by decide +kernel
set_option maxRecDepth 100000 in
theorem dX0_put_30 : decode cX0_put 30 = .ok (.istore_n 3, 1) := by decide +kernel
set_option maxRecDepth 100000 in
theorem dX0_put_31 : decode cX0_put 31 = .ok (.iconst 0, 1) := by decide +kernel
set_option maxRecDepth 100000 in
theorem dX0_put_32 : decode cX0_put 32 = .ok (.istore 4, 2) := by decide +kernel
set_option maxRecDepth 100000 in
theorem dX0_put_34 : decode cX0_put 34 = .ok (.iload 4, 2) := by decide +kernel
set_option maxRecDepth 100000 in
theorem dX0_put_36 : decode cX0_put 36 = .ok (.iload_n 2, 1) := by decide +kernel
set_option maxRecDepth 100000 in
theorem dX0_put_37 : decode cX0_put 37 = .ok (.if_icmp .ge 53, 3) := by decide +kernel
set_option maxRecDepth 100000 in
theorem dX0_put_40 : decode cX0_put 40 = .ok (.iload_n 3, 1) := by decide +kernel
set_option maxRecDepth 100000 in
theorem dX0_put_41 : decode cX0_put 41 = .ok (.aload_n 0, 1) := by decide +kernel
set_option maxRecDepth 100000 in
theorem dX0_put_42 : decode cX0_put 42 = .ok (.getfield 99, 3) := by decide +kernel
set_option maxRecDepth 100000 in
theorem dX0_put_45 : decode cX0_put 45 = .ok (.iload 4, 2) := by decide +kernel
set_option maxRecDepth 100000 in
theorem dX0_put_47 : decode cX0_put 47 = .ok (.baload, 1) := by decide +kernel
set_option maxRecDepth 100000 in
theorem dX0_put_48 : decode cX0_put 48 = .ok (.bipush 10, 2) := by decide +kernel
set_option maxRecDepth 100000 in
theorem dX0_put_50 : decode cX0_put 50 = .ok (.if_icmp .eq 27, 3) := by decide +kernel
set_option maxRecDepth 100000 in
theorem dX0_put_53 : decode cX0_put 53 = .ok (.aload_n 0, 1) := by decide +kernel
set_option maxRecDepth 100000 in
theorem dX0_put_54 : decode cX0_put 54 = .ok (.getfield 99, 3) := by decide +kernel
set_option maxRecDepth 100000 in
theorem dX0_put_57 : decode cX0_put 57 = .ok (.iload 4, 2) := by decide +kernel
set_option maxRecDepth 100000 in
theorem dX0_put_59 : decode cX0_put 59 = .ok (.baload, 1) := by decide +kernel
set_option maxRecDepth 100000 in
theorem dX0_put_60 : decode cX0_put 60 = .ok (.bipush 32, 2) := by decide +kernel
set_option maxRecDepth 100000 in
theorem dX0_put_62 : decode cX0_put 62 = .ok (.if_icmp .lt 19, 3) := by decide +kernel
set_option maxRecDepth 100000 in
theorem dX0_put_65 : decode cX0_put 65 = .ok (.aload_n 0, 1) := by decide +kernel
set_option maxRecDepth 100000 in
theorem dX0_put_66 : decode cX0_put 66 = .ok (.getfield 99, 3) := by decide +kernel
set_option maxRecDepth 100000 in
theorem dX0_put_69 : decode cX0_put 69 = .ok (.iload 4, 2) := by decide +kernel
set_option maxRecDepth 100000 in
theorem dX0_put_71 : decode cX0_put 71 = .ok (.baload, 1) := by decide +kernel
set_option maxRecDepth 100000 in
theorem dX0_put_72 : decode cX0_put 72 = .ok (.bipush 127, 2) := by decide +kernel
set_option maxRecDepth 100000 in
theorem dX0_put_74 : decode cX0_put 74 = .ok (.if_icmp .ge 7, 3) := by decide +kernel
set_option maxRecDepth 100000 in
theorem dX0_put_77 : decode cX0_put 77 = .ok (.iconst 1, 1) := by decide +kernel
set_option maxRecDepth 100000 in
theorem dX0_put_78 : decode cX0_put 78 = .ok (.goto 4, 3) := by decide +kernel
set_option maxRecDepth 100000 in
theorem dX0_put_81 : decode cX0_put 81 = .ok (.iconst 0, 1) := by decide +kernel
set_option maxRecDepth 100000 in
theorem dX0_put_82 : decode cX0_put 82 = .ok (.iand, 1) := by decide +kernel
set_option maxRecDepth 100000 in
theorem dX0_put_83 : decode cX0_put 83 = .ok (.istore_n 3, 1) := by decide +kernel
set_option maxRecDepth 100000 in
theorem dX0_put_84 : decode cX0_put 84 = .ok (.iinc 4 1, 3) := by decide +kernel
set_option maxRecDepth 100000 in
theorem dX0_put_87 : decode cX0_put 87 = .ok (.goto (-53), 3) := by decide +kernel
set_option maxRecDepth 100000 in
theorem dX0_put_90 : decode cX0_put 90 = .ok (.iload_n 3, 1) := by decide +kernel
set_option maxRecDepth 100000 in
theorem dX0_put_91 : decode cX0_put 91 = .ok (.ifCond .ne 5, 3) := by decide +kernel
set_option maxRecDepth 100000 in
theorem dX0_put_94 : decode cX0_put 94 = .ok (.iconst (-1), 1) := by decide +kernel
set_option maxRecDepth 100000 in
theorem dX0_put_95 : decode cX0_put 95 = .ok (.ireturn, 1) := by decide +kernel
set_option maxRecDepth 100000 in
theorem dX0_put_96 : decode cX0_put 96 = .ok (.iconst 0, 1) := by decide +kernel
set_option maxRecDepth 100000 in
theorem dX0_put_97 : decode cX0_put 97 = .ok (.istore 4, 2) := by decide +kernel
set_option maxRecDepth 100000 in
theorem dX0_put_99 : decode cX0_put 99 = .ok (.iload 4, 2) := by decide +kernel
set_option maxRecDepth 100000 in
theorem dX0_put_101 : decode cX0_put 101 = .ok (.iload_n 2, 1) := by decide +kernel
set_option maxRecDepth 100000 in
theorem dX0_put_102 : decode cX0_put 102 = .ok (.if_icmp .ge 29, 3) := by decide +kernel
set_option maxRecDepth 100000 in
theorem dX0_put_105 : decode cX0_put 105 = .ok (.aload_n 0, 1) := by decide +kernel
set_option maxRecDepth 100000 in
theorem dX0_put_106 : decode cX0_put 106 = .ok (.getfield 102, 3) := by decide +kernel
set_option maxRecDepth 100000 in
theorem dX0_put_109 : decode cX0_put 109 = .ok (.sipush 3000, 3) := by decide +kernel
set_option maxRecDepth 100000 in
theorem dX0_put_112 : decode cX0_put 112 = .ok (.iload_n 1, 1) := by decide +kernel
set_option maxRecDepth 100000 in
theorem dX0_put_113 : decode cX0_put 113 = .ok (.imul, 1) := by decide +kernel
set_option maxRecDepth 100000 in
theorem dX0_put_114 : decode cX0_put 114 = .ok (.iload 4, 2) := by decide +kernel
set_option maxRecDepth 100000 in
theorem dX0_put_116 : decode cX0_put 116 = .ok (.iadd, 1) := by decide +kernel
set_option maxRecDepth 100000 in
theorem dX0_put_117 : decode cX0_put 117 = .ok (.aload_n 0, 1) := by decide +kernel
set_option maxRecDepth 100000 in
theorem dX0_put_118 : decode cX0_put 118 = .ok (.getfield 99, 3) := by decide +kernel
set_option maxRecDepth 100000 in
theorem dX0_put_121 : decode cX0_put 121 = .ok (.iload 4, 2) := by decide +kernel
set_option maxRecDepth 100000 in
theorem dX0_put_123 : decode cX0_put 123 = .ok (.baload, 1) := by decide +kernel
set_option maxRecDepth 100000 in
theorem dX0_put_124 : decode cX0_put 124 = .ok (.bastore, 1) := by decide +kernel
set_option maxRecDepth 100000 in
theorem dX0_put_125 : decode cX0_put 125 = .ok (.iinc 4 1, 3) := by decide +kernel
set_option maxRecDepth 100000 in
theorem dX0_put_128 : decode cX0_put 128 = .ok (.goto (-29), 3) := by decide +kernel
set_option maxRecDepth 100000 in
theorem dX0_put_131 : decode cX0_put 131 = .ok (.aload_n 0, 1) := by decide +kernel
set_option maxRecDepth 100000 in
theorem dX0_put_132 : decode cX0_put 132 = .ok (.getfield 105, 3) := by decide +kernel
set_option maxRecDepth 100000 in
theorem dX0_put_135 : decode cX0_put 135 = .ok (.iload_n 1, 1) := by decide +kernel
set_option maxRecDepth 100000 in
theorem dX0_put_136 : decode cX0_put 136 = .ok (.iload_n 2, 1) := by decide +kernel
set_option maxRecDepth 100000 in
theorem dX0_put_137 : decode cX0_put 137 = .ok (.iastore, 1) := by decide +kernel
set_option maxRecDepth 100000 in
theorem dX0_put_138 : decode cX0_put 138 = .ok (.iload_n 2, 1) := by decide +kernel
set_option maxRecDepth 100000 in
theorem dX0_put_139 : decode cX0_put 139 = .ok (.ireturn, 1) := by decide +kernel
def lX0_put_34 (G : xG) (fr lo : Nat) (x0 : Nat) (x1 : Int32) (x2 : Int32) (x3 : Int32) (x4 : Int32) (h : xH) (Q : Outcome → xH → Prop) : Prop := xP G YX0_put fr lo 34 [(0, rv x0), (1, .int x1), (2, .int x2), (3, .int x3), (4, .int x4)] [] h Q
def lX0_put_99 (G : xG) (fr lo : Nat) (x0 : Nat) (x1 : Int32) (x2 : Int32) (x4 : Int32) (h : xH) (Q : Outcome → xH → Prop) : Prop := xP G YX0_put fr lo 99 [(0, rv x0), (1, .int x1), (2, .int x2), (4, .int x4)] [] h Q
set_option maxRecDepth 100000 in
def bX0_put_99 (G : xG) (fr lo : Nat) (x0 : Nat) (x1 : Int32) (x2 : Int32) (x4 : Int32) (h : xH) (Q : Outcome → xH → Prop) : Prop := ((x2 ≤ x4 → tg h x0 = 1 ∧ tg h (fR h x0 6) = 100 ∧ vp_in x1 (ln h (fR h x0 6)) ∧ (∀ h5 : xH, h5 = tI h (fR h x0 6) (Int32.toNatClampNeg x1) x2 → Q (.returned (some (.int x2))) h5)) ∧ (¬ x2 ≤ x4 → tg h x0 = 1 ∧ tg h (fR h x0 2) = 103 ∧ vp_in x4 (ln h (fR h x0 2)) ∧ tg h (fR h x0 5) = 103 ∧ xGB G < (fR h x0 5) ∧ vp_in ((3000 * x1) + x4) (ln h (fR h x0 5)) ∧ (∀ h13 : xH, h13 = tI h (fR h x0 5) (Int32.toNatClampNeg ((3000 * x1) + x4)) (vp_nar .byte (aI h (fR h x0 2) (Int32.toNatClampNeg x4))) → lX0_put_99 G fr lo x0 x1 x2 (x4 + 1) h13 Q)))
set_option maxRecDepth 100000 in
theorem uX0_put_99 {G : xG} {fr lo : Nat} {x0 : Nat} {x1 : Int32} {x2 : Int32} {x4 : Int32} {h : xH} {Q : Outcome → xH → Prop} (hq : bX0_put_99 G fr lo x0 x1 x2 x4 h Q) : xP G YX0_put fr lo 99 [(0, rv x0), (1, .int x1), (2, .int x2), (4, .int x4)] [] h Q := by
  unfold bX0_put_99 at hq
  refine x_iload 3 dX0_put_99 rfl ?_
  refine x_iload_n 2 dX0_put_101 rfl ?_
  refine x_icmp_ge (tgt := 131) dX0_put_102 (by decide) (fun c1 => ?_) (fun c1 => ?_)
  · replace hq := hq.1 c1
    refine x_aload_n 0 dX0_put_131 rfl ?_
    obtain ⟨g2, hq⟩ := hq
    refine x_get (v := rv (fR h x0 6)) fdX0_105 dX0_put_132 g2 rfl ?_
    refine x_iload_n 1 dX0_put_135 rfl ?_
    refine x_iload_n 2 dX0_put_136 rfl ?_
    obtain ⟨g3, hq⟩ := hq
    obtain ⟨i4, hq⟩ := hq
    obtain ⟨h5, e6⟩ : ∃ y, y = tI h (fR h x0 6) (Int32.toNatClampNeg x1) x2 := ⟨_, rfl⟩
    replace hq := hq h5 e6
    refine x_iast' g3 i4 dX0_put_137 e6 ?_
    refine x_iload_n 2 dX0_put_138 rfl ?_
    exact x_iret rfl rfl dX0_put_139 hq
  · replace hq := hq.2 c1
    refine x_aload_n 0 dX0_put_105 rfl ?_
    obtain ⟨g7, hq⟩ := hq
    refine x_get (v := rv (fR h x0 5)) fdX0_102 dX0_put_106 g7 rfl ?_
    refine x_sipush (v := 3000) dX0_put_109 (by decide) ?_
    refine x_iload_n 1 dX0_put_112 rfl ?_
    refine x_imul dX0_put_113 ?_
    refine x_iload 3 dX0_put_114 rfl ?_
    refine x_iadd dX0_put_116 ?_
    refine x_aload_n 0 dX0_put_117 rfl ?_
    refine x_get (v := rv (fR h x0 2)) fdX0_99 dX0_put_118 g7 rfl ?_
    refine x_iload 3 dX0_put_121 rfl ?_
    obtain ⟨g8, hq⟩ := hq
    obtain ⟨i9, hq⟩ := hq
    refine x_bald g8 i9 dX0_put_123 ?_
    obtain ⟨g10, hq⟩ := hq
    obtain ⟨w11, hq⟩ := hq
    obtain ⟨i12, hq⟩ := hq
    obtain ⟨h13, e14⟩ : ∃ y, y = tI h (fR h x0 5) (Int32.toNatClampNeg ((3000 * x1) + x4)) (vp_nar .byte (aI h (fR h x0 2) (Int32.toNatClampNeg x4))) := ⟨_, rfl⟩
    replace hq := hq h13 e14
    refine x_bast' g10 (Or.inr w11) i12 dX0_put_124 e14 ?_
    refine x_iinc (lv' := [(4, .int (x4 + 1)), (0, rv x0), (1, .int x1), (2, .int x2)]) 3 dX0_put_125 rfl (by decide) rfl ?_
    refine x_goto (tgt := 99) dX0_put_128 (by decide) ?_
    refine xP.pick (lv' := [(0, rv x0), (1, .int x1), (2, .int x2), (4, .int (x4 + 1))]) [1, 2, 3, 0] rfl ?_
    exact hq
set_option maxRecDepth 100000 in
def bX0_put_82 (G : xG) (fr lo : Nat) (x0 : Nat) (x1 : Int32) (x2 : Int32) (x4 : Int32) (s0 : Int32) (s1 : Int32) (h : xH) (Q : Outcome → xH → Prop) : Prop := lX0_put_34 G fr lo x0 x1 x2 (s1 &&& s0) (x4 + 1) h Q
set_option maxRecDepth 100000 in
theorem uX0_put_82 {G : xG} {fr lo : Nat} {x0 : Nat} {x1 : Int32} {x2 : Int32} {x4 : Int32} {s0 : Int32} {s1 : Int32} {h : xH} {Q : Outcome → xH → Prop} (hq : bX0_put_82 G fr lo x0 x1 x2 x4 s0 s1 h Q) : xP G YX0_put fr lo 82 [(0, rv x0), (1, .int x1), (2, .int x2), (4, .int x4)] [.int s0, .int s1] h Q := by
  unfold bX0_put_82 at hq
  refine x_iand dX0_put_82 ?_
  refine x_istore_n (lv' := [(3, .int (s1 &&& s0)), (0, rv x0), (1, .int x1), (2, .int x2), (4, .int x4)]) dX0_put_83 (by decide) rfl ?_
  refine x_iinc (lv' := [(4, .int (x4 + 1)), (3, .int (s1 &&& s0)), (0, rv x0), (1, .int x1), (2, .int x2)]) 4 dX0_put_84 rfl (by decide) rfl ?_
  refine x_goto (tgt := 34) dX0_put_87 (by decide) ?_
  refine xP.pick (lv' := [(0, rv x0), (1, .int x1), (2, .int x2), (3, .int (s1 &&& s0)), (4, .int (x4 + 1))]) [2, 3, 4, 1, 0] rfl ?_
  exact hq
set_option maxRecDepth 100000 in
def bX0_put_81 (G : xG) (fr lo : Nat) (x0 : Nat) (x1 : Int32) (x2 : Int32) (x4 : Int32) (s0 : Int32) (h : xH) (Q : Outcome → xH → Prop) : Prop := bX0_put_82 G fr lo x0 x1 x2 x4 0 s0 h Q
set_option maxRecDepth 100000 in
theorem uX0_put_81 {G : xG} {fr lo : Nat} {x0 : Nat} {x1 : Int32} {x2 : Int32} {x4 : Int32} {s0 : Int32} {h : xH} {Q : Outcome → xH → Prop} (hq : bX0_put_81 G fr lo x0 x1 x2 x4 s0 h Q) : xP G YX0_put fr lo 81 [(0, rv x0), (1, .int x1), (2, .int x2), (4, .int x4)] [.int s0] h Q := by
  unfold bX0_put_81 at hq
  refine x_iconst (v := 0) dX0_put_81 (by decide) ?_
  exact uX0_put_82 hq
set_option maxRecDepth 100000 in
def bX0_put_77 (G : xG) (fr lo : Nat) (x0 : Nat) (x1 : Int32) (x2 : Int32) (x4 : Int32) (s0 : Int32) (h : xH) (Q : Outcome → xH → Prop) : Prop := bX0_put_82 G fr lo x0 x1 x2 x4 1 s0 h Q
set_option maxRecDepth 100000 in
theorem uX0_put_77 {G : xG} {fr lo : Nat} {x0 : Nat} {x1 : Int32} {x2 : Int32} {x4 : Int32} {s0 : Int32} {h : xH} {Q : Outcome → xH → Prop} (hq : bX0_put_77 G fr lo x0 x1 x2 x4 s0 h Q) : xP G YX0_put fr lo 77 [(0, rv x0), (1, .int x1), (2, .int x2), (4, .int x4)] [.int s0] h Q := by
  unfold bX0_put_77 at hq
  refine x_iconst (v := 1) dX0_put_77 (by decide) ?_
  refine x_goto (tgt := 82) dX0_put_78 (by decide) ?_
  exact uX0_put_82 hq
set_option maxRecDepth 100000 in
def bX0_put_34 (G : xG) (fr lo : Nat) (x0 : Nat) (x1 : Int32) (x2 : Int32) (x3 : Int32) (x4 : Int32) (h : xH) (Q : Outcome → xH → Prop) : Prop := ((x2 ≤ x4 → ((¬ x3 = 0 → lX0_put_99 G fr lo x0 x1 x2 0 h Q) ∧ (x3 = 0 → Q (.returned (some (.int (-1)))) h))) ∧ (¬ x2 ≤ x4 → tg h x0 = 1 ∧ tg h (fR h x0 2) = 103 ∧ vp_in x4 (ln h (fR h x0 2)) ∧ (((aI h (fR h x0 2) (Int32.toNatClampNeg x4)) = 10 → bX0_put_77 G fr lo x0 x1 x2 x4 x3 h Q) ∧ (¬ (aI h (fR h x0 2) (Int32.toNatClampNeg x4)) = 10 → vp_in x4 (ln h (fR h x0 2)) ∧ (((aI h (fR h x0 2) (Int32.toNatClampNeg x4)) < 32 → bX0_put_81 G fr lo x0 x1 x2 x4 x3 h Q) ∧ (¬ (aI h (fR h x0 2) (Int32.toNatClampNeg x4)) < 32 → vp_in x4 (ln h (fR h x0 2)) ∧ ((127 ≤ (aI h (fR h x0 2) (Int32.toNatClampNeg x4)) → bX0_put_81 G fr lo x0 x1 x2 x4 x3 h Q) ∧ (¬ 127 ≤ (aI h (fR h x0 2) (Int32.toNatClampNeg x4)) → bX0_put_77 G fr lo x0 x1 x2 x4 x3 h Q))))))))
set_option maxRecDepth 100000 in
theorem uX0_put_34 {G : xG} {fr lo : Nat} {x0 : Nat} {x1 : Int32} {x2 : Int32} {x3 : Int32} {x4 : Int32} {h : xH} {Q : Outcome → xH → Prop} (hq : bX0_put_34 G fr lo x0 x1 x2 x3 x4 h Q) : xP G YX0_put fr lo 34 [(0, rv x0), (1, .int x1), (2, .int x2), (3, .int x3), (4, .int x4)] [] h Q := by
  unfold bX0_put_34 at hq
  refine x_iload 4 dX0_put_34 rfl ?_
  refine x_iload_n 2 dX0_put_36 rfl ?_
  refine x_icmp_ge (tgt := 90) dX0_put_37 (by decide) (fun c1 => ?_) (fun c1 => ?_)
  · replace hq := hq.1 c1
    refine x_iload_n 3 dX0_put_90 rfl ?_
    refine x_if_ne (tgt := 96) dX0_put_91 (by decide) (fun c2 => ?_) (fun c2 => ?_)
    · replace hq := hq.1 c2
      refine x_iconst (v := 0) dX0_put_96 (by decide) ?_
      refine x_istore (lv' := [(4, .int 0), (0, rv x0), (1, .int x1), (2, .int x2), (3, .int x3)]) dX0_put_97 (by decide) rfl ?_
      refine xP.pick (lv' := [(0, rv x0), (1, .int x1), (2, .int x2), (4, .int 0)]) [1, 2, 3, 0] rfl ?_
      exact hq
    · replace hq := hq.2 c2
      refine x_iconst (v := (-1)) dX0_put_94 (by decide) ?_
      exact x_iret rfl rfl dX0_put_95 hq
  · replace hq := hq.2 c1
    refine x_iload_n 3 dX0_put_40 rfl ?_
    refine x_aload_n 0 dX0_put_41 rfl ?_
    obtain ⟨g3, hq⟩ := hq
    refine x_get (v := rv (fR h x0 2)) fdX0_99 dX0_put_42 g3 rfl ?_
    refine x_iload 4 dX0_put_45 rfl ?_
    obtain ⟨g4, hq⟩ := hq
    obtain ⟨i5, hq⟩ := hq
    refine x_bald g4 i5 dX0_put_47 ?_
    refine x_bipush (v := 10) dX0_put_48 (by decide) ?_
    refine x_icmp_eq (tgt := 77) dX0_put_50 (by decide) (fun c6 => ?_) (fun c6 => ?_)
    · replace hq := hq.1 c6
      refine xP.pick (lv' := [(0, rv x0), (1, .int x1), (2, .int x2), (4, .int x4)]) [0, 1, 2, 4] rfl ?_
      exact uX0_put_77 hq
    · replace hq := hq.2 c6
      refine x_aload_n 0 dX0_put_53 rfl ?_
      refine x_get (v := rv (fR h x0 2)) fdX0_99 dX0_put_54 g3 rfl ?_
      refine x_iload 4 dX0_put_57 rfl ?_
      obtain ⟨i7, hq⟩ := hq
      refine x_bald g4 i7 dX0_put_59 ?_
      refine x_bipush (v := 32) dX0_put_60 (by decide) ?_
      refine x_icmp_lt (tgt := 81) dX0_put_62 (by decide) (fun c8 => ?_) (fun c8 => ?_)
      · replace hq := hq.1 c8
        refine xP.pick (lv' := [(0, rv x0), (1, .int x1), (2, .int x2), (4, .int x4)]) [0, 1, 2, 4] rfl ?_
        exact uX0_put_81 hq
      · replace hq := hq.2 c8
        refine x_aload_n 0 dX0_put_65 rfl ?_
        refine x_get (v := rv (fR h x0 2)) fdX0_99 dX0_put_66 g3 rfl ?_
        refine x_iload 4 dX0_put_69 rfl ?_
        obtain ⟨i9, hq⟩ := hq
        refine x_bald g4 i9 dX0_put_71 ?_
        refine x_bipush (v := 127) dX0_put_72 (by decide) ?_
        refine x_icmp_ge (tgt := 81) dX0_put_74 (by decide) (fun c10 => ?_) (fun c10 => ?_)
        · replace hq := hq.1 c10
          refine xP.pick (lv' := [(0, rv x0), (1, .int x1), (2, .int x2), (4, .int x4)]) [0, 1, 2, 4] rfl ?_
          exact uX0_put_81 hq
        · replace hq := hq.2 c10
          refine xP.pick (lv' := [(0, rv x0), (1, .int x1), (2, .int x2), (4, .int x4)]) [0, 1, 2, 4] rfl ?_
          exact uX0_put_77 hq
set_option maxRecDepth 100000 in
def bX0_put_27 (G : xG) (fr lo : Nat) (h : xH) (Q : Outcome → xH → Prop) : Prop := Q (.returned (some (.int (-1)))) h
set_option maxRecDepth 100000 in
theorem uX0_put_27 {G : xG} {fr lo : Nat} {h : xH} {Q : Outcome → xH → Prop} (hq : bX0_put_27 G fr lo h Q) : xP G YX0_put fr lo 27 [] [] h Q := by
  unfold bX0_put_27 at hq
  refine x_iconst (v := (-1)) dX0_put_27 (by decide) ?_
  exact x_iret rfl rfl dX0_put_28 hq
set_option maxRecDepth 100000 in
def bX0_put (G : xG) (fr lo : Nat) (x0 : Nat) (x1 : Int32) (h : xH) (Q : Outcome → xH → Prop) : Prop := tg h x0 = 1 ∧ (∀ h2 : xH, h2 = sI h x0 4 0 → ((x1 < 0 → bX0_put_27 G fr lo h2 Q) ∧ (¬ x1 < 0 → ((8 ≤ x1 → bX0_put_27 G fr lo h2 Q) ∧ (¬ 8 ≤ x1 → (((fI h x0 4) ≤ 3000 → lX0_put_34 G fr lo x0 x1 (fI h x0 4) 1 0 h2 Q) ∧ (¬ (fI h x0 4) ≤ 3000 → bX0_put_27 G fr lo h2 Q)))))))
set_option maxRecDepth 100000 in
theorem uX0_put {G : xG} {fr lo : Nat} {x0 : Nat} {x1 : Int32} {h : xH} {Q : Outcome → xH → Prop} (hq : bX0_put G fr lo x0 x1 h Q) : xP G YX0_put fr lo 0 [(0, rv x0), (1, .int x1)] [] h Q := by
  unfold bX0_put at hq
  refine x_aload_n 0 dX0_put_0 rfl ?_
  obtain ⟨g1, hq⟩ := hq
  refine x_get (v := .int (fI h x0 4)) fdX0_181 dX0_put_1 g1 rfl ?_
  refine x_istore_n (lv' := [(2, .int (fI h x0 4)), (0, rv x0), (1, .int x1)]) dX0_put_4 (by decide) rfl ?_
  refine x_aload_n 1 dX0_put_5 rfl ?_
  refine x_iconst (v := 0) dX0_put_6 (by decide) ?_
  obtain ⟨h2, e3⟩ : ∃ y, y = sI h x0 4 0 := ⟨_, rfl⟩
  replace hq := hq h2 e3
  refine x_putI fdX0_181 xty_I1 dX0_put_7 g1 (Or.inl (by rw [g1]; rfl)) xnI rfl e3 ?_
  refine x_iload_n 2 dX0_put_10 rfl ?_
  refine x_if_lt (tgt := 27) dX0_put_11 (by decide) (fun c4 => ?_) (fun c4 => ?_)
  · replace hq := hq.1 c4
    refine xP.pick (lv' := []) [] rfl ?_
    exact uX0_put_27 hq
  · replace hq := hq.2 c4
    refine x_iload_n 2 dX0_put_14 rfl ?_
    refine x_bipush (v := 8) dX0_put_15 (by decide) ?_
    refine x_icmp_ge (tgt := 27) dX0_put_17 (by decide) (fun c5 => ?_) (fun c5 => ?_)
    · replace hq := hq.1 c5
      refine xP.pick (lv' := []) [] rfl ?_
      exact uX0_put_27 hq
    · replace hq := hq.2 c5
      refine x_iload_n 0 dX0_put_20 rfl ?_
      refine x_sipush (v := 3000) dX0_put_21 (by decide) ?_
      refine x_icmp_le (tgt := 29) dX0_put_24 (by decide) (fun c6 => ?_) (fun c6 => ?_)
      · replace hq := hq.1 c6
        refine x_iconst (v := 1) dX0_put_29 (by decide) ?_
        refine x_istore_n (lv' := [(3, .int 1), (2, .int (fI h x0 4)), (0, rv x0), (1, .int x1)]) dX0_put_30 (by decide) rfl ?_
        refine x_iconst (v := 0) dX0_put_31 (by decide) ?_
        refine x_istore (lv' := [(4, .int 0), (3, .int 1), (2, .int (fI h x0 4)), (0, rv x0), (1, .int x1)]) dX0_put_32 (by decide) rfl ?_
        refine xP.pick (lv' := [(0, rv x0), (1, .int x1), (2, .int (fI h x0 4)), (3, .int 1), (4, .int 0)]) [3, 4, 2, 1, 0] rfl ?_
        exact hq
      · replace hq := hq.2 c6
        refine xP.pick (lv' := []) [] rfl ?_
        exact uX0_put_27 hq
theorem rX0_put {G : xG} {fr lo : Nat} {x0 : Nat} {x1 : Int32} {h : xH} {Q : Outcome → xH → Prop} (hq : bX0_put G fr lo x0 x1 h Q) : xR G YX0_put fr lo [rv x0, .int x1] h Q := by
  show xP _ _ _ _ _ (lv_args 0 _) _ _ _
  rw [show lv_args 0 [rv x0, .int x1] = [(0, rv x0), (1, .int x1)] from (xla1 (rv_cat _) (xla1 rfl xla0))]
  exact uX0_put hq
set_option maxRecDepth 100000 in
theorem dX0_run_0 : decode cX0_run 0 = .ok (.aload_n 0, 1) := by decide +kernel
set_option maxRecDepth 100000 in
theorem dX0_run_1 : decode cX0_run 1 = .ok (.getfield 184, 3) := by decide +kernel
set_option maxRecDepth 100000 in
theorem dX0_run_4 : decode cX0_run 4 = .ok (.ifnonnull 5, 3) := by decide +kernel
set_option maxRecDepth 100000 in
theorem dX0_run_7 : decode cX0_run 7 = .ok (.iconst (-1), 1) := by decide +kernel
set_option maxRecDepth 100000 in
theorem dX0_run_8 : decode cX0_run 8 = .ok (.ireturn, 1) := by decide +kernel
set_option maxRecDepth 100000 in
theorem dX0_run_9 : decode cX0_run 9 = .ok (.aload_n 0, 1) := by decide +kernel
set_option maxRecDepth 100000 in
theorem dX0_run_10 : decode cX0_run 10 = .ok (.iconst 1, 1) := by decide +kernel
set_option maxRecDepth 100000 in
theorem dX0_run_11 : decode cX0_run 11 = .ok (.putfield 188, 3) := by decide +kernel
set_option maxRecDepth 100000 in
theorem dX0_run_14 : decode cX0_run 14 = .ok (.aload_n 0, 1) := by decide +kernel
set_option maxRecDepth 100000 in
theorem dX0_run_15 : decode cX0_run 15 = .ok (.getfield 151, 3) := by decide +kernel
set_option maxRecDepth 100000 in
theorem dX0_run_18 : decode cX0_run 18 = .ok (.aload_n 0, 1) := by decide +kernel
set_option maxRecDepth 100000 in
theorem dX0_run_19 : decode cX0_run 19 = .ok (.getfield 184, 3) := by decide +kernel
set_option maxRecDepth 100000 in
theorem dX0_run_22 : decode cX0_run 22 = .ok (.iload_n 1, 1) := by decide +kernel
set_option maxRecDepth 100000 in
theorem dX0_run_23 : decode cX0_run 23 = .ok (.invokestatic 256, 3) := by decide +kernel
set_option maxRecDepth 100000 in
theorem dX0_run_26 : decode cX0_run 26 = .ok (.invokevirtual 260, 3) := by decide +kernel
set_option maxRecDepth 100000 in
theorem dX0_run_29 : decode cX0_run 29 = .ok (.aload_n 0, 1) := by decide +kernel
set_option maxRecDepth 100000 in
theorem dX0_run_30 : decode cX0_run 30 = .ok (.getfield 151, 3) := by decide +kernel
set_option maxRecDepth 100000 in
theorem dX0_run_33 : decode cX0_run 33 = .ok (.getfield 263, 3) := by decide +kernel
set_option maxRecDepth 100000 in
theorem dX0_run_36 : decode cX0_run 36 = .ok (.ifCond .ne 55, 3) := by decide +kernel
set_option maxRecDepth 100000 in
theorem dX0_run_39 : decode cX0_run 39 = .ok (.iconst 0, 1) := by decide +kernel
set_option maxRecDepth 100000 in
theorem dX0_run_40 : decode cX0_run 40 = .ok (.istore_n 2, 1) := by decide +kernel
set_option maxRecDepth 100000 in
theorem dX0_run_41 : decode cX0_run 41 = .ok (.iload_n 2, 1) := by decide +kernel
set_option maxRecDepth 100000 in
theorem dX0_run_42 : decode cX0_run 42 = .ok (.aload_n 0, 1) := by decide +kernel
set_option maxRecDepth 100000 in
theorem dX0_run_43 : decode cX0_run 43 = .ok (.getfield 217, 3) := by decide +kernel
set_option maxRecDepth 100000 in
theorem dX0_run_46 : decode cX0_run 46 = .ok (.if_icmp .ge 14, 3) := by decide +kernel
set_option maxRecDepth 100000 in
theorem dX0_run_49 : decode cX0_run 49 = .ok (.aload_n 0, 1) := by decide +kernel
set_option maxRecDepth 100000 in
theorem dX0_run_50 : decode cX0_run 50 = .ok (.iload_n 2, 1) := by decide +kernel
set_option maxRecDepth 100000 in
theorem dX0_run_51 : decode cX0_run 51 = .ok (.invokevirtual 266, 3) := by decide +kernel
set_option maxRecDepth 100000 in
theorem dX0_run_54 : decode cX0_run 54 = .ok (.iinc 2 1, 3) := by decide +kernel
set_option maxRecDepth 100000 in
theorem dX0_run_57 : decode cX0_run 57 = .ok (.goto (-16), 3) := by decide +kernel
set_option maxRecDepth 100000 in
theorem dX0_run_60 : decode cX0_run 60 = .ok (.aload_n 0, 1) := by decide +kernel
set_option maxRecDepth 100000 in
theorem dX0_run_61 : decode cX0_run 61 = .ok (.getfield 151, 3) := by decide +kernel
set_option maxRecDepth 100000 in
theorem dX0_run_64 : decode cX0_run 64 = .ok (.invokevirtual 269, 3) := by decide +kernel
set_option maxRecDepth 100000 in
theorem dX0_run_67 : decode cX0_run 67 = .ok (.iconst 0, 1) := by decide +kernel
set_option maxRecDepth 100000 in
theorem dX0_run_68 : decode cX0_run 68 = .ok (.istore_n 2, 1) := by decide +kernel
set_option maxRecDepth 100000 in
theorem dX0_run_69 : decode cX0_run 69 = .ok (.iload_n 2, 1) := by decide +kernel
set_option maxRecDepth 100000 in
theorem dX0_run_70 : decode cX0_run 70 = .ok (.aload_n 0, 1) := by decide +kernel
set_option maxRecDepth 100000 in
theorem dX0_run_71 : decode cX0_run 71 = .ok (.getfield 217, 3) := by decide +kernel
set_option maxRecDepth 100000 in
theorem dX0_run_74 : decode cX0_run 74 = .ok (.if_icmp .ge 14, 3) := by decide +kernel
set_option maxRecDepth 100000 in
theorem dX0_run_77 : decode cX0_run 77 = .ok (.aload_n 0, 1) := by decide +kernel
set_option maxRecDepth 100000 in
theorem dX0_run_78 : decode cX0_run 78 = .ok (.iload_n 2, 1) := by decide +kernel
set_option maxRecDepth 100000 in
theorem dX0_run_79 : decode cX0_run 79 = .ok (.invokevirtual 272, 3) := by decide +kernel
set_option maxRecDepth 100000 in
theorem dX0_run_82 : decode cX0_run 82 = .ok (.iinc 2 1, 3) := by decide +kernel
set_option maxRecDepth 100000 in
theorem dX0_run_85 : decode cX0_run 85 = .ok (.goto (-16), 3) := by decide +kernel
set_option maxRecDepth 100000 in
theorem dX0_run_88 : decode cX0_run 88 = .ok (.goto 26, 3) := by decide +kernel
set_option maxRecDepth 100000 in
theorem dX0_run_91 : decode cX0_run 91 = .ok (.iconst 0, 1) := by decide +kernel
set_option maxRecDepth 100000 in
theorem dX0_run_92 : decode cX0_run 92 = .ok (.istore_n 2, 1) := by decide +kernel
set_option maxRecDepth 100000 in
theorem dX0_run_93 : decode cX0_run 93 = .ok (.iload_n 2, 1) := by decide +kernel
set_option maxRecDepth 100000 in
theorem dX0_run_94 : decode cX0_run 94 = .ok (.aload_n 0, 1) := by decide +kernel
set_option maxRecDepth 100000 in
theorem dX0_run_95 : decode cX0_run 95 = .ok (.getfield 217, 3) := by decide +kernel
set_option maxRecDepth 100000 in
theorem dX0_run_98 : decode cX0_run 98 = .ok (.if_icmp .ge 16, 3) := by decide +kernel
set_option maxRecDepth 100000 in
theorem dX0_run_101 : decode cX0_run 101 = .ok (.aload_n 0, 1) := by decide +kernel
set_option maxRecDepth 100000 in
theorem dX0_run_102 : decode cX0_run 102 = .ok (.getfield 168, 3) := by decide +kernel
set_option maxRecDepth 100000 in
theorem dX0_run_105 : decode cX0_run 105 = .ok (.iload_n 2, 1) := by decide +kernel
set_option maxRecDepth 100000 in
theorem dX0_run_106 : decode cX0_run 106 = .ok (.iconst 0, 1) := by decide +kernel
set_option maxRecDepth 100000 in
theorem dX0_run_107 : decode cX0_run 107 = .ok (.iastore, 1) := by decide +kernel
set_option maxRecDepth 100000 in
theorem dX0_run_108 : decode cX0_run 108 = .ok (.iinc 2 1, 3) := by decide +kernel
set_option maxRecDepth 100000 in
theorem dX0_run_111 : decode cX0_run 111 = .ok (.goto (-18), 3) := by decide +kernel
set_option maxRecDepth 100000 in
theorem dX0_run_114 : decode cX0_run 114 = .ok (.aload_n 0, 1) := by decide +kernel
set_option maxRecDepth 100000 in
theorem dX0_run_115 : decode cX0_run 115 = .ok (.getfield 151, 3) := by decide +kernel
set_option maxRecDepth 100000 in
theorem dX0_run_118 : decode cX0_run 118 = .ok (.getfield 263, 3) := by decide +kernel
set_option maxRecDepth 100000 in
theorem dX0_run_121 : decode cX0_run 121 = .ok (.ireturn, 1) := by decide +kernel
def lX0_run_41 (G : xG) (fr lo : Nat) (x0 : Nat) (x2 : Int32) (h : xH) (Q : Outcome → xH → Prop) : Prop := xP G YX0_run fr lo 41 [(0, rv x0), (2, .int x2)] [] h Q
def lX0_run_69 (G : xG) (fr lo : Nat) (x0 : Nat) (x2 : Int32) (h : xH) (Q : Outcome → xH → Prop) : Prop := xP G YX0_run fr lo 69 [(0, rv x0), (2, .int x2)] [] h Q
def lX0_run_93 (G : xG) (fr lo : Nat) (x0 : Nat) (x2 : Int32) (h : xH) (Q : Outcome → xH → Prop) : Prop := xP G YX0_run fr lo 93 [(0, rv x0), (2, .int x2)] [] h Q
set_option maxRecDepth 100000 in
def bX0_run_114 (G : xG) (fr lo : Nat) (x0 : Nat) (h : xH) (Q : Outcome → xH → Prop) : Prop := tg h x0 = 1 ∧ tg h (fR h x0 11) = 10 ∧ Q (.returned (some (.int (fI h (fR h x0 11) 2326)))) h
set_option maxRecDepth 100000 in
theorem uX0_run_114 {G : xG} {fr lo : Nat} {x0 : Nat} {h : xH} {Q : Outcome → xH → Prop} (hq : bX0_run_114 G fr lo x0 h Q) : xP G YX0_run fr lo 114 [(0, rv x0)] [] h Q := by
  unfold bX0_run_114 at hq
  refine x_aload_n 0 dX0_run_114 rfl ?_
  obtain ⟨g1, hq⟩ := hq
  refine x_get (v := rv (fR h x0 11)) fdX0_151 dX0_run_115 g1 rfl ?_
  obtain ⟨g2, hq⟩ := hq
  refine x_getN (v := .int (fI h (fR h x0 11) 2326)) gfX0_263 dX0_run_118 g2 rfl ?_
  exact x_iret rfl rfl dX0_run_121 hq
set_option maxRecDepth 100000 in
def bX0_run_93 (G : xG) (fr lo : Nat) (x0 : Nat) (x2 : Int32) (h : xH) (Q : Outcome → xH → Prop) : Prop := tg h x0 = 1 ∧ (((fI h x0 14) ≤ x2 → bX0_run_114 G fr lo x0 h Q) ∧ (¬ (fI h x0 14) ≤ x2 → tg h (fR h x0 20) = 100 ∧ vp_in x2 (ln h (fR h x0 20)) ∧ (∀ h5 : xH, h5 = tI h (fR h x0 20) (Int32.toNatClampNeg x2) 0 → lX0_run_93 G fr lo x0 (x2 + 1) h5 Q)))
set_option maxRecDepth 100000 in
theorem uX0_run_93 {G : xG} {fr lo : Nat} {x0 : Nat} {x2 : Int32} {h : xH} {Q : Outcome → xH → Prop} (hq : bX0_run_93 G fr lo x0 x2 h Q) : xP G YX0_run fr lo 93 [(0, rv x0), (2, .int x2)] [] h Q := by
  unfold bX0_run_93 at hq
  refine x_iload_n 1 dX0_run_93 rfl ?_
  refine x_aload_n 0 dX0_run_94 rfl ?_
  obtain ⟨g1, hq⟩ := hq
  refine x_get (v := .int (fI h x0 14)) fdX0_217 dX0_run_95 g1 rfl ?_
  refine x_icmp_ge (tgt := 114) dX0_run_98 (by decide) (fun c2 => ?_) (fun c2 => ?_)
  · replace hq := hq.1 c2
    refine xP.pick (lv' := [(0, rv x0)]) [0] rfl ?_
    exact uX0_run_114 hq
  · replace hq := hq.2 c2
    refine x_aload_n 0 dX0_run_101 rfl ?_
    refine x_get (v := rv (fR h x0 20)) fdX0_168 dX0_run_102 g1 rfl ?_
    refine x_iload_n 1 dX0_run_105 rfl ?_
    refine x_iconst (v := 0) dX0_run_106 (by decide) ?_
    obtain ⟨g3, hq⟩ := hq
    obtain ⟨i4, hq⟩ := hq
    obtain ⟨h5, e6⟩ : ∃ y, y = tI h (fR h x0 20) (Int32.toNatClampNeg x2) 0 := ⟨_, rfl⟩
    replace hq := hq h5 e6
    refine x_iast' g3 i4 dX0_run_107 e6 ?_
    refine x_iinc (lv' := [(2, .int (x2 + 1)), (0, rv x0)]) 1 dX0_run_108 rfl (by decide) rfl ?_
    refine x_goto (tgt := 93) dX0_run_111 (by decide) ?_
    refine xP.pick (lv' := [(0, rv x0), (2, .int (x2 + 1))]) [1, 0] rfl ?_
    exact hq
set_option maxRecDepth 100000 in
def bX0_run_69 (G : xG) (fr lo : Nat) (x0 : Nat) (x2 : Int32) (h : xH) (Q : Outcome → xH → Prop) : Prop := tg h x0 = 1 ∧ (((fI h x0 14) ≤ x2 → bX0_run_114 G fr lo x0 h Q) ∧ (¬ (fI h x0 14) ≤ x2 → 1 ≤ fr ∧ 16 ≤ lo ∧ xRv G YX0_keeps (fr - 1) (lo - 16) [rv x0, .int x2] h (fun h5 => xext h h5 → lX0_run_69 G fr lo x0 (x2 + 1) h5 Q) (fun r h2 => Q (.threw r) h2)))
set_option maxRecDepth 100000 in
theorem uX0_run_69 {G : xG} {fr lo : Nat} {x0 : Nat} {x2 : Int32} {h : xH} {Q : Outcome → xH → Prop} (hq : bX0_run_69 G fr lo x0 x2 h Q) : xP G YX0_run fr lo 69 [(0, rv x0), (2, .int x2)] [] h Q := by
  unfold bX0_run_69 at hq
  refine x_iload_n 1 dX0_run_69 rfl ?_
  refine x_aload_n 0 dX0_run_70 rfl ?_
  obtain ⟨g1, hq⟩ := hq
  refine x_get (v := .int (fI h x0 14)) fdX0_217 dX0_run_71 g1 rfl ?_
  refine x_icmp_ge (tgt := 88) dX0_run_74 (by decide) (fun c2 => ?_) (fun c2 => ?_)
  · replace hq := hq.1 c2
    refine x_goto (tgt := 114) dX0_run_88 (by decide) ?_
    refine xP.pick (lv' := [(0, rv x0)]) [0] rfl ?_
    exact uX0_run_114 hq
  · replace hq := hq.2 c2
    refine x_aload_n 0 dX0_run_77 rfl ?_
    refine x_iload_n 1 dX0_run_78 rfl ?_
    obtain ⟨g3, g4, hq⟩ := hq
    refine x_callV (Yc := YX0_keeps) (as := [.int x2]) (st := []) q3177 mvX0_keeps g1 rfl dX0_run_79 (xle (xal1 (rv_cat _) (xal1 rfl xal0)) (by decide)) (xfr g3) (xlo xsw0 (by decide) g4) (xKv hq (fun h5 hq e7 => ?_) (fun _ _ q _ => q))
    replace hq := hq e7
    refine x_iinc (lv' := [(2, .int (x2 + 1)), (0, rv x0)]) 1 dX0_run_82 rfl (by decide) rfl ?_
    refine x_goto (tgt := 69) dX0_run_85 (by decide) ?_
    refine xP.pick (lv' := [(0, rv x0), (2, .int (x2 + 1))]) [1, 0] rfl ?_
    exact hq
set_option maxRecDepth 100000 in
def bX0_run_41 (G : xG) (fr lo : Nat) (x0 : Nat) (x2 : Int32) (h : xH) (Q : Outcome → xH → Prop) : Prop := tg h x0 = 1 ∧ (((fI h x0 14) ≤ x2 → tg h (fR h x0 11) = 10 ∧ 1 ≤ fr ∧ 14 ≤ lo ∧ xRv G YX9_go (fr - 1) (lo - 14) [rv (fR h x0 11)] h (fun h6 => xext h h6 → lX0_run_69 G fr lo x0 0 h6 Q) (fun r h2 => Q (.threw r) h2)) ∧ (¬ (fI h x0 14) ≤ x2 → 1 ≤ fr ∧ 16 ≤ lo ∧ xRv G YX0_opens (fr - 1) (lo - 16) [rv x0, .int x2] h (fun h11 => xext h h11 → lX0_run_41 G fr lo x0 (x2 + 1) h11 Q) (fun r h2 => Q (.threw r) h2)))
set_option maxRecDepth 100000 in
theorem uX0_run_41 {G : xG} {fr lo : Nat} {x0 : Nat} {x2 : Int32} {h : xH} {Q : Outcome → xH → Prop} (hq : bX0_run_41 G fr lo x0 x2 h Q) : xP G YX0_run fr lo 41 [(0, rv x0), (2, .int x2)] [] h Q := by
  unfold bX0_run_41 at hq
  refine x_iload_n 1 dX0_run_41 rfl ?_
  refine x_aload_n 0 dX0_run_42 rfl ?_
  obtain ⟨g1, hq⟩ := hq
  refine x_get (v := .int (fI h x0 14)) fdX0_217 dX0_run_43 g1 rfl ?_
  refine x_icmp_ge (tgt := 60) dX0_run_46 (by decide) (fun c2 => ?_) (fun c2 => ?_)
  · replace hq := hq.1 c2
    refine x_aload_n 0 dX0_run_60 rfl ?_
    refine x_get (v := rv (fR h x0 11)) fdX0_151 dX0_run_61 g1 rfl ?_
    obtain ⟨g3, hq⟩ := hq
    obtain ⟨g4, g5, hq⟩ := hq
    refine x_callV (Yc := YX9_go) (as := []) (st := []) q2883 mvX9_go g3 rfl dX0_run_64 (xle (xal1 (rv_cat _) xal0) (by decide)) (xfr g4) (xlo xsw0 (by decide) g5) (xKv hq (fun h6 hq e8 => ?_) (fun _ _ q _ => q))
    replace hq := hq e8
    refine x_iconst (v := 0) dX0_run_67 (by decide) ?_
    refine x_istore_n (lv' := [(2, .int 0), (0, rv x0)]) dX0_run_68 (by decide) rfl ?_
    refine xP.pick (lv' := [(0, rv x0), (2, .int 0)]) [1, 0] rfl ?_
    exact hq
  · replace hq := hq.2 c2
    refine x_aload_n 0 dX0_run_49 rfl ?_
    refine x_iload_n 1 dX0_run_50 rfl ?_
    obtain ⟨g9, g10, hq⟩ := hq
    refine x_callV (Yc := YX0_opens) (as := [.int x2]) (st := []) q2855 mvX0_opens g1 rfl dX0_run_51 (xle (xal1 (rv_cat _) (xal1 rfl xal0)) (by decide)) (xfr g9) (xlo xsw0 (by decide) g10) (xKv hq (fun h11 hq e13 => ?_) (fun _ _ q _ => q))
    replace hq := hq e13
    refine x_iinc (lv' := [(2, .int (x2 + 1)), (0, rv x0)]) 1 dX0_run_54 rfl (by decide) rfl ?_
    refine x_goto (tgt := 41) dX0_run_57 (by decide) ?_
    refine xP.pick (lv' := [(0, rv x0), (2, .int (x2 + 1))]) [1, 0] rfl ?_
    exact hq
set_option maxRecDepth 100000 in
def bX0_run (G : xG) (fr lo : Nat) (x0 : Nat) (x1 : Int32) (h : xH) (Q : Outcome → xH → Prop) : Prop := tg h x0 = 1 ∧ ((¬ (fR h x0 12) = 0 → (∀ h3 : xH, h3 = sI h x0 18 1 → 1 ≤ fr ∧ 14 ≤ lo ∧ xRi G YX0_held (fr - 1) (lo - 14) [.int x1] h3 (fun x9 h8 => xext h3 h8 → tg h8 (fR h3 x0 11) = 10 ∧ 1 ≤ fr ∧ 15 ≤ lo ∧ xRv G YX9_begin (fr - 1) (lo - 15) [rv (fR h3 x0 11), rv (fR h3 x0 12), .int x9] h8 (fun h14 => xext h8 h14 → tg h14 (fR h14 x0 11) = 10 ∧ ((¬ (fI h14 (fR h14 x0 11) 2326) = 0 → lX0_run_93 G fr lo x0 0 h14 Q) ∧ ((fI h14 (fR h14 x0 11) 2326) = 0 → lX0_run_41 G fr lo x0 0 h14 Q))) (fun r h2 => Q (.threw r) h2)) (fun r h2 => Q (.threw r) h2))) ∧ ((fR h x0 12) = 0 → Q (.returned (some (.int (-1)))) h))
set_option maxRecDepth 100000 in
theorem uX0_run {G : xG} {fr lo : Nat} {x0 : Nat} {x1 : Int32} {h : xH} {Q : Outcome → xH → Prop} (hq : bX0_run G fr lo x0 x1 h Q) : xP G YX0_run fr lo 0 [(0, rv x0), (1, .int x1)] [] h Q := by
  unfold bX0_run at hq
  refine x_aload_n 0 dX0_run_0 rfl ?_
  obtain ⟨g1, hq⟩ := hq
  refine x_get (v := rv (fR h x0 12)) fdX0_184 dX0_run_1 g1 rfl ?_
  refine x_ifnonnull (tgt := 9) dX0_run_4 (by decide) (fun c2 => ?_) (fun c2 => ?_)
  · replace hq := hq.1 c2
    refine x_aload_n 0 dX0_run_9 rfl ?_
    refine x_iconst (v := 1) dX0_run_10 (by decide) ?_
    obtain ⟨h3, e4⟩ : ∃ y, y = sI h x0 18 1 := ⟨_, rfl⟩
    replace hq := hq h3 e4
    refine x_putI fdX0_188 xty_Z1 dX0_run_11 g1 (Or.inl (by rw [g1]; rfl)) (xnB (Or.inr rfl)) rfl e4 ?_
    refine x_aload_n 0 dX0_run_14 rfl ?_
    have t5 : tg h3 x0 = 1 := by rw [e4]; exact g1
    refine x_get (v := rv (fR h3 x0 11)) fdX0_151 dX0_run_15 t5 rfl ?_
    refine x_aload_n 0 dX0_run_18 rfl ?_
    refine x_get (v := rv (fR h3 x0 12)) fdX0_184 dX0_run_19 t5 rfl ?_
    refine x_iload_n 1 dX0_run_22 rfl ?_
    obtain ⟨g6, g7, hq⟩ := hq
    refine x_callS (Yc := YX0_held) (as := [.int x1]) (st := [rv (fR h3 x0 12), rv (fR h3 x0 11)]) q2820 msX0_held rfl dX0_run_23 (xle (xal1 rfl xal0) (by decide)) (xfr g6) (xlo (xsw1 (rv_cat _) (xsw1 (rv_cat _) xsw0)) (by decide) g7) (xKi hq (fun x9 h8 hq e10 => ?_) (fun _ _ q _ => q))
    replace hq := hq e10
    obtain ⟨g11, hq⟩ := hq
    obtain ⟨g12, g13, hq⟩ := hq
    refine x_callV (Yc := YX9_begin) (as := [rv (fR h3 x0 12), .int x9]) (st := []) q2823 mvX9_begin g11 rfl dX0_run_26 (xle (xal1 (rv_cat _) (xal1 (rv_cat _) (xal1 rfl xal0))) (by decide)) (xfr g12) (xlo xsw0 (by decide) g13) (xKv hq (fun h14 hq e16 => ?_) (fun _ _ q _ => q))
    replace hq := hq e16
    refine x_aload_n 0 dX0_run_29 rfl ?_
    have t17 : tg h8 x0 = 1 := e10.tg t5 (by decide)
    have t18 : tg h14 x0 = 1 := e16.tg t17 (by decide)
    refine x_get (v := rv (fR h14 x0 11)) fdX0_151 dX0_run_30 t18 rfl ?_
    obtain ⟨g19, hq⟩ := hq
    refine x_getN (v := .int (fI h14 (fR h14 x0 11) 2326)) gfX0_263 dX0_run_33 g19 rfl ?_
    refine x_if_ne (tgt := 91) dX0_run_36 (by decide) (fun c20 => ?_) (fun c20 => ?_)
    · replace hq := hq.1 c20
      refine x_iconst (v := 0) dX0_run_91 (by decide) ?_
      refine x_istore_n (lv' := [(2, .int 0), (0, rv x0), (1, .int x1)]) dX0_run_92 (by decide) rfl ?_
      refine xP.pick (lv' := [(0, rv x0), (2, .int 0)]) [1, 0] rfl ?_
      exact hq
    · replace hq := hq.2 c20
      refine x_iconst (v := 0) dX0_run_39 (by decide) ?_
      refine x_istore_n (lv' := [(2, .int 0), (0, rv x0), (1, .int x1)]) dX0_run_40 (by decide) rfl ?_
      refine xP.pick (lv' := [(0, rv x0), (2, .int 0)]) [1, 0] rfl ?_
      exact hq
  · replace hq := hq.2 c2
    refine x_iconst (v := (-1)) dX0_run_7 (by decide) ?_
    exact x_iret rfl rfl dX0_run_8 hq
theorem rX0_run {G : xG} {fr lo : Nat} {x0 : Nat} {x1 : Int32} {h : xH} {Q : Outcome → xH → Prop} (hq : bX0_run G fr lo x0 x1 h Q) : xR G YX0_run fr lo [rv x0, .int x1] h Q := by
  show xP _ _ _ _ _ (lv_args 0 _) _ _ _
  rw [show lv_args 0 [rv x0, .int x1] = [(0, rv x0), (1, .int x1)] from (xla1 (rv_cat _) (xla1 rfl xla0))]
  exact uX0_run hq
set_option maxRecDepth 100000 in
theorem dX0_held_0 : decode cX0_held 0 = .ok (.iload_n 0, 1) := by decide +kernel
set_option maxRecDepth 100000 in
theorem dX0_held_1 : decode cX0_held 1 = .ok (.ifCond .ge 7, 3) := by decide +kernel
set_option maxRecDepth 100000 in
theorem dX0_held_4 : decode cX0_held 4 = .ok (.iconst 0, 1) := by decide +kernel
set_option maxRecDepth 100000 in
theorem dX0_held_5 : decode cX0_held 5 = .ok (.goto 17, 3) := by decide +kernel
set_option maxRecDepth 100000 in
theorem dX0_held_8 : decode cX0_held 8 = .ok (.iload_n 0, 1) := by decide +kernel
set_option maxRecDepth 100000 in
theorem dX0_held_9 : decode cX0_held 9 = .ok (.sipush 20000, 3) := by decide +kernel
set_option maxRecDepth 100000 in
theorem dX0_held_12 : decode cX0_held 12 = .ok (.if_icmp .le 9, 3) := by decide +kernel
set_option maxRecDepth 100000 in
theorem dX0_held_15 : decode cX0_held 15 = .ok (.sipush 20000, 3) := by decide +kernel
set_option maxRecDepth 100000 in
theorem dX0_held_18 : decode cX0_held 18 = .ok (.goto 4, 3) := by decide +kernel
set_option maxRecDepth 100000 in
theorem dX0_held_21 : decode cX0_held 21 = .ok (.iload_n 0, 1) := by decide +kernel
set_option maxRecDepth 100000 in
theorem dX0_held_22 : decode cX0_held 22 = .ok (.ireturn, 1) := by decide +kernel
set_option maxRecDepth 100000 in
def bX0_held_22 (G : xG) (fr lo : Nat) (s0 : Int32) (h : xH) (Q : Outcome → xH → Prop) : Prop := Q (.returned (some (.int s0))) h
set_option maxRecDepth 100000 in
theorem uX0_held_22 {G : xG} {fr lo : Nat} {s0 : Int32} {h : xH} {Q : Outcome → xH → Prop} (hq : bX0_held_22 G fr lo s0 h Q) : xP G YX0_held fr lo 22 [] [.int s0] h Q := by
  unfold bX0_held_22 at hq
  exact x_iret rfl rfl dX0_held_22 hq
set_option maxRecDepth 100000 in
def bX0_held (G : xG) (fr lo : Nat) (x0 : Int32) (h : xH) (Q : Outcome → xH → Prop) : Prop := ((0 ≤ x0 → ((x0 ≤ 20000 → bX0_held_22 G fr lo x0 h Q) ∧ (¬ x0 ≤ 20000 → bX0_held_22 G fr lo 20000 h Q))) ∧ (¬ 0 ≤ x0 → bX0_held_22 G fr lo 0 h Q))
set_option maxRecDepth 100000 in
theorem uX0_held {G : xG} {fr lo : Nat} {x0 : Int32} {h : xH} {Q : Outcome → xH → Prop} (hq : bX0_held G fr lo x0 h Q) : xP G YX0_held fr lo 0 [(0, .int x0)] [] h Q := by
  unfold bX0_held at hq
  refine x_iload_n 0 dX0_held_0 rfl ?_
  refine x_if_ge (tgt := 8) dX0_held_1 (by decide) (fun c1 => ?_) (fun c1 => ?_)
  · replace hq := hq.1 c1
    refine x_iload_n 0 dX0_held_8 rfl ?_
    refine x_sipush (v := 20000) dX0_held_9 (by decide) ?_
    refine x_icmp_le (tgt := 21) dX0_held_12 (by decide) (fun c2 => ?_) (fun c2 => ?_)
    · replace hq := hq.1 c2
      refine x_iload_n 0 dX0_held_21 rfl ?_
      refine xP.pick (lv' := []) [] rfl ?_
      exact uX0_held_22 hq
    · replace hq := hq.2 c2
      refine x_sipush (v := 20000) dX0_held_15 (by decide) ?_
      refine x_goto (tgt := 22) dX0_held_18 (by decide) ?_
      refine xP.pick (lv' := []) [] rfl ?_
      exact uX0_held_22 hq
  · replace hq := hq.2 c1
    refine x_iconst (v := 0) dX0_held_4 (by decide) ?_
    refine x_goto (tgt := 22) dX0_held_5 (by decide) ?_
    refine xP.pick (lv' := []) [] rfl ?_
    exact uX0_held_22 hq
theorem rX0_held {G : xG} {fr lo : Nat} {x0 : Int32} {h : xH} {Q : Outcome → xH → Prop} (hq : bX0_held G fr lo x0 h Q) : xR G YX0_held fr lo [.int x0] h Q := by
  show xP _ _ _ _ _ (lv_args 0 _) _ _ _
  rw [show lv_args 0 [.int x0] = [(0, .int x0)] from (xla1 rfl xla0)]
  exact uX0_held hq
set_option maxRecDepth 100000 in
theorem dX0_opens_0 : decode cX0_opens 0 = .ok (.aload_n 0, 1) := by decide +kernel
set_option maxRecDepth 100000 in
theorem dX0_opens_1 : decode cX0_opens 1 = .ok (.getfield 155, 3) := by decide +kernel
set_option maxRecDepth 100000 in
theorem dX0_opens_4 : decode cX0_opens 4 = .ok (.iload_n 1, 1) := by decide +kernel
set_option maxRecDepth 100000 in
theorem dX0_opens_5 : decode cX0_opens 5 = .ok (.iaload, 1) := by decide +kernel
set_option maxRecDepth 100000 in
theorem dX0_opens_6 : decode cX0_opens 6 = .ok (.istore_n 2, 1) := by decide +kernel
set_option maxRecDepth 100000 in
theorem dX0_opens_7 : decode cX0_opens 7 = .ok (.aload_n 0, 1) := by decide +kernel
set_option maxRecDepth 100000 in
theorem dX0_opens_8 : decode cX0_opens 8 = .ok (.getfield 151, 3) := by decide +kernel
set_option maxRecDepth 100000 in
theorem dX0_opens_11 : decode cX0_opens 11 = .ok (.getfield 275, 3) := by decide +kernel
set_option maxRecDepth 100000 in
theorem dX0_opens_14 : decode cX0_opens 14 = .ok (.astore_n 3, 1) := by decide +kernel
set_option maxRecDepth 100000 in
theorem dX0_opens_15 : decode cX0_opens 15 = .ok (.iconst 0, 1) := by decide +kernel
set_option maxRecDepth 100000 in
theorem dX0_opens_16 : decode cX0_opens 16 = .ok (.istore 4, 2) := by decide +kernel
set_option maxRecDepth 100000 in
theorem dX0_opens_18 : decode cX0_opens 18 = .ok (.iload 4, 2) := by decide +kernel
set_option maxRecDepth 100000 in
theorem dX0_opens_20 : decode cX0_opens 20 = .ok (.aload_n 0, 1) := by decide +kernel
set_option maxRecDepth 100000 in
theorem dX0_opens_21 : decode cX0_opens 21 = .ok (.getfield 105, 3) := by decide +kernel
set_option maxRecDepth 100000 in
theorem dX0_opens_24 : decode cX0_opens 24 = .ok (.iload_n 1, 1) := by decide +kernel
set_option maxRecDepth 100000 in
theorem dX0_opens_25 : decode cX0_opens 25 = .ok (.iaload, 1) := by decide +kernel
set_option maxRecDepth 100000 in
theorem dX0_opens_26 : decode cX0_opens 26 = .ok (.if_icmp .ge 27, 3) := by decide +kernel
set_option maxRecDepth 100000 in
theorem dX0_opens_29 : decode cX0_opens 29 = .ok (.aload_n 3, 1) := by decide +kernel
set_option maxRecDepth 100000 in
theorem dX0_opens_30 : decode cX0_opens 30 = .ok (.iload_n 2, 1) := by decide +kernel
set_option maxRecDepth 100000 in
theorem dX0_opens_31 : decode cX0_opens 31 = .ok (.aload_n 0, 1) := by decide +kernel
set_option maxRecDepth 100000 in
theorem dX0_opens_32 : decode cX0_opens 32 = .ok (.getfield 102, 3) := by decide +kernel
set_option maxRecDepth 100000 in
theorem dX0_opens_35 : decode cX0_opens 35 = .ok (.sipush 3000, 3) := by decide +kernel
set_option maxRecDepth 100000 in
theorem dX0_opens_38 : decode cX0_opens 38 = .ok (.iload_n 1, 1) := by decide +kernel
set_option maxRecDepth 100000 in
theorem dX0_opens_39 : decode cX0_opens 39 = .ok (.imul, 1) := by decide +kernel
set_option maxRecDepth 100000 in
theorem dX0_opens_40 : decode cX0_opens 40 = .ok (.iload 4, 2) := by decide +kernel
set_option maxRecDepth 100000 in
theorem dX0_opens_42 : decode cX0_opens 42 = .ok (.iadd, 1) := by decide +kernel
set_option maxRecDepth 100000 in
theorem dX0_opens_43 : decode cX0_opens 43 = .ok (.baload, 1) := by decide +kernel
set_option maxRecDepth 100000 in
theorem dX0_opens_44 : decode cX0_opens 44 = .ok (.invokevirtual 278, 3) := by decide +kernel
set_option maxRecDepth 100000 in
theorem dX0_opens_47 : decode cX0_opens 47 = .ok (.iinc 4 1, 3) := by decide +kernel
set_option maxRecDepth 100000 in
theorem dX0_opens_50 : decode cX0_opens 50 = .ok (.goto (-32), 3) := by decide +kernel
set_option maxRecDepth 100000 in
theorem dX0_opens_53 : decode cX0_opens 53 = .ok (.aload_n 3, 1) := by decide +kernel
set_option maxRecDepth 100000 in
theorem dX0_opens_54 : decode cX0_opens 54 = .ok (.getfield 284, 3) := by decide +kernel
set_option maxRecDepth 100000 in
theorem dX0_opens_57 : decode cX0_opens 57 = .ok (.iload_n 2, 1) := by decide +kernel
set_option maxRecDepth 100000 in
theorem dX0_opens_58 : decode cX0_opens 58 = .ok (.iconst 1, 1) := by decide +kernel
set_option maxRecDepth 100000 in
theorem dX0_opens_59 : decode cX0_opens 59 = .ok (.bastore, 1) := by decide +kernel
set_option maxRecDepth 100000 in
theorem dX0_opens_60 : decode cX0_opens 60 = .ok (.iload_n 2, 1) := by decide +kernel
set_option maxRecDepth 100000 in
theorem dX0_opens_61 : decode cX0_opens 61 = .ok (.aload_n 0, 1) := by decide +kernel
set_option maxRecDepth 100000 in
theorem dX0_opens_62 : decode cX0_opens 62 = .ok (.getfield 158, 3) := by decide +kernel
set_option maxRecDepth 100000 in
theorem dX0_opens_65 : decode cX0_opens 65 = .ok (.if_icmp .ne 9, 3) := by decide +kernel
set_option maxRecDepth 100000 in
theorem dX0_opens_68 : decode cX0_opens 68 = .ok (.aload_n 3, 1) := by decide +kernel
set_option maxRecDepth 100000 in
theorem dX0_opens_69 : decode cX0_opens 69 = .ok (.iload_n 2, 1) := by decide +kernel
set_option maxRecDepth 100000 in
theorem dX0_opens_70 : decode cX0_opens 70 = .ok (.iconst 1, 1) := by decide +kernel
set_option maxRecDepth 100000 in
theorem dX0_opens_71 : decode cX0_opens 71 = .ok (.invokevirtual 288, 3) := by decide +kernel
set_option maxRecDepth 100000 in
theorem dX0_opens_74 : decode cX0_opens 74 = .ok (.iload_n 2, 1) := by decide +kernel
set_option maxRecDepth 100000 in
theorem dX0_opens_75 : decode cX0_opens 75 = .ok (.aload_n 0, 1) := by decide +kernel
set_option maxRecDepth 100000 in
theorem dX0_opens_76 : decode cX0_opens 76 = .ok (.getfield 162, 3) := by decide +kernel
set_option maxRecDepth 100000 in
theorem dX0_opens_79 : decode cX0_opens 79 = .ok (.if_icmp .eq 4, 3) := by decide +kernel
set_option maxRecDepth 100000 in
theorem dX0_opens_82 : decode cX0_opens 82 = .ok (.return_, 1) := by decide +kernel
set_option maxRecDepth 100000 in
theorem dX0_opens_83 : decode cX0_opens 83 = .ok (.aload_n 3, 1) := by decide +kernel
set_option maxRecDepth 100000 in
theorem dX0_opens_84 : decode cX0_opens 84 = .ok (.iload_n 2, 1) := by decide +kernel
set_option maxRecDepth 100000 in
theorem dX0_opens_85 : decode cX0_opens 85 = .ok (.invokevirtual 291, 3) := by decide +kernel
set_option maxRecDepth 100000 in
theorem dX0_opens_88 : decode cX0_opens 88 = .ok (.aload_n 3, 1) := by decide +kernel
set_option maxRecDepth 100000 in
theorem dX0_opens_89 : decode cX0_opens 89 = .ok (.getfield 294, 3) := by decide +kernel
set_option maxRecDepth 100000 in
theorem dX0_opens_92 : decode cX0_opens 92 = .ok (.iload_n 2, 1) := by decide +kernel
set_option maxRecDepth 100000 in
theorem dX0_opens_93 : decode cX0_opens 93 = .ok (.iconst 2, 1) := by decide +kernel
set_option maxRecDepth 100000 in
theorem dX0_opens_94 : decode cX0_opens 94 = .ok (.iastore, 1) := by decide +kernel
set_option maxRecDepth 100000 in
theorem dX0_opens_95 : decode cX0_opens 95 = .ok (.return_, 1) := by decide +kernel
def lX0_opens_18 (G : xG) (fr lo : Nat) (x0 : Nat) (x1 : Int32) (x2 : Int32) (x3 : Nat) (x4 : Int32) (h : xH) (Q : Outcome → xH → Prop) : Prop := xP G YX0_opens fr lo 18 [(0, rv x0), (1, .int x1), (2, .int x2), (3, rv x3), (4, .int x4)] [] h Q
set_option maxRecDepth 100000 in
def bX0_opens_74 (G : xG) (fr lo : Nat) (x0 : Nat) (x2 : Int32) (x3 : Nat) (h : xH) (Q : Outcome → xH → Prop) : Prop := tg h x0 = 1 ∧ ((x2 = (fI h x0 17) → tg h x3 = 12 ∧ 1 ≤ fr ∧ 13 ≤ lo ∧ xRv G YX11_empty (fr - 1) (lo - 13) [rv x3, .int x2] h (fun h6 => xext h h6 → tg h6 (fR h6 x3 2817) = 100 ∧ vp_in x2 (ln h6 (fR h6 x3 2817)) ∧ (∀ h12 : xH, h12 = tI h6 (fR h6 x3 2817) (Int32.toNatClampNeg x2) 2 → Q (.returned none) h12)) (fun r h2 => Q (.threw r) h2)) ∧ (¬ x2 = (fI h x0 17) → Q (.returned none) h))
set_option maxRecDepth 100000 in
theorem uX0_opens_74 {G : xG} {fr lo : Nat} {x0 : Nat} {x2 : Int32} {x3 : Nat} {h : xH} {Q : Outcome → xH → Prop} (hq : bX0_opens_74 G fr lo x0 x2 x3 h Q) : xP G YX0_opens fr lo 74 [(0, rv x0), (2, .int x2), (3, rv x3)] [] h Q := by
  unfold bX0_opens_74 at hq
  refine x_iload_n 1 dX0_opens_74 rfl ?_
  refine x_aload_n 0 dX0_opens_75 rfl ?_
  obtain ⟨g1, hq⟩ := hq
  refine x_get (v := .int (fI h x0 17)) fdX0_162 dX0_opens_76 g1 rfl ?_
  refine x_icmp_eq (tgt := 83) dX0_opens_79 (by decide) (fun c2 => ?_) (fun c2 => ?_)
  · replace hq := hq.1 c2
    refine x_aload_n 2 dX0_opens_83 rfl ?_
    refine x_iload_n 1 dX0_opens_84 rfl ?_
    obtain ⟨g3, hq⟩ := hq
    obtain ⟨g4, g5, hq⟩ := hq
    refine x_callV (Yc := YX11_empty) (as := [.int x2]) (st := []) q2879 mvX11_empty g3 rfl dX0_opens_85 (xle (xal1 (rv_cat _) (xal1 rfl xal0)) (by decide)) (xfr g4) (xlo xsw0 (by decide) g5) (xKv hq (fun h6 hq e8 => ?_) (fun _ _ q _ => q))
    replace hq := hq e8
    refine x_aload_n 2 dX0_opens_88 rfl ?_
    have t9 : tg h6 x3 = 12 := e8.tg g3 (by decide)
    refine x_getN (v := rv (fR h6 x3 2817)) gfX0_294 dX0_opens_89 t9 rfl ?_
    refine x_iload_n 1 dX0_opens_92 rfl ?_
    refine x_iconst (v := 2) dX0_opens_93 (by decide) ?_
    obtain ⟨g10, hq⟩ := hq
    obtain ⟨i11, hq⟩ := hq
    obtain ⟨h12, e13⟩ : ∃ y, y = tI h6 (fR h6 x3 2817) (Int32.toNatClampNeg x2) 2 := ⟨_, rfl⟩
    replace hq := hq h12 e13
    refine x_iast' g10 i11 dX0_opens_94 e13 ?_
    exact x_vret rfl dX0_opens_95 hq
  · replace hq := hq.2 c2
    exact x_vret rfl dX0_opens_82 hq
set_option maxRecDepth 100000 in
def bX0_opens_18 (G : xG) (fr lo : Nat) (x0 : Nat) (x1 : Int32) (x2 : Int32) (x3 : Nat) (x4 : Int32) (h : xH) (Q : Outcome → xH → Prop) : Prop := tg h x0 = 1 ∧ tg h (fR h x0 6) = 100 ∧ vp_in x1 (ln h (fR h x0 6)) ∧ (((aI h (fR h x0 6) (Int32.toNatClampNeg x1)) ≤ x4 → tg h x3 = 12 ∧ tg h (fR h x3 2824) = 104 ∧ vp_in x2 (ln h (fR h x3 2824)) ∧ (∀ h8 : xH, h8 = tI h (fR h x3 2824) (Int32.toNatClampNeg x2) (vp_nar .boolean 1) → ((¬ x2 = (fI h8 x0 16) → bX0_opens_74 G fr lo x0 x2 x3 h8 Q) ∧ (x2 = (fI h8 x0 16) → 1 ≤ fr ∧ 14 ≤ lo ∧ xRv G YX11_reset (fr - 1) (lo - 14) [rv x3, .int x2, .int 1] h8 (fun h15 => xext h8 h15 → bX0_opens_74 G fr lo x0 x2 x3 h15 Q) (fun r h2 => Q (.threw r) h2))))) ∧ (¬ (aI h (fR h x0 6) (Int32.toNatClampNeg x1)) ≤ x4 → tg h (fR h x0 5) = 103 ∧ vp_in ((3000 * x1) + x4) (ln h (fR h x0 5)) ∧ tg h x3 = 12 ∧ 1 ≤ fr ∧ 15 ≤ lo ∧ xRv G YX11_add (fr - 1) (lo - 15) [rv x3, .int x2, .int (aI h (fR h x0 5) (Int32.toNatClampNeg ((3000 * x1) + x4)))] h (fun h23 => xext h h23 → lX0_opens_18 G fr lo x0 x1 x2 x3 (x4 + 1) h23 Q) (fun r h2 => Q (.threw r) h2)))
set_option maxRecDepth 100000 in
theorem uX0_opens_18 {G : xG} {fr lo : Nat} {x0 : Nat} {x1 : Int32} {x2 : Int32} {x3 : Nat} {x4 : Int32} {h : xH} {Q : Outcome → xH → Prop} (hq : bX0_opens_18 G fr lo x0 x1 x2 x3 x4 h Q) : xP G YX0_opens fr lo 18 [(0, rv x0), (1, .int x1), (2, .int x2), (3, rv x3), (4, .int x4)] [] h Q := by
  unfold bX0_opens_18 at hq
  refine x_iload 4 dX0_opens_18 rfl ?_
  refine x_aload_n 0 dX0_opens_20 rfl ?_
  obtain ⟨g1, hq⟩ := hq
  refine x_get (v := rv (fR h x0 6)) fdX0_105 dX0_opens_21 g1 rfl ?_
  refine x_iload_n 1 dX0_opens_24 rfl ?_
  obtain ⟨g2, hq⟩ := hq
  obtain ⟨i3, hq⟩ := hq
  refine x_iald 0 (Or.inl rfl) g2 i3 dX0_opens_25 ?_
  refine x_icmp_ge (tgt := 53) dX0_opens_26 (by decide) (fun c4 => ?_) (fun c4 => ?_)
  · replace hq := hq.1 c4
    refine x_aload_n 3 dX0_opens_53 rfl ?_
    obtain ⟨g5, hq⟩ := hq
    refine x_getN (v := rv (fR h x3 2824)) gfX0_284 dX0_opens_54 g5 rfl ?_
    refine x_iload_n 2 dX0_opens_57 rfl ?_
    refine x_iconst (v := 1) dX0_opens_58 (by decide) ?_
    obtain ⟨g6, hq⟩ := hq
    obtain ⟨i7, hq⟩ := hq
    obtain ⟨h8, e9⟩ : ∃ y, y = tI h (fR h x3 2824) (Int32.toNatClampNeg x2) (vp_nar .boolean 1) := ⟨_, rfl⟩
    replace hq := hq h8 e9
    refine x_zast' g6 i7 dX0_opens_59 e9 ?_
    refine x_iload_n 2 dX0_opens_60 rfl ?_
    refine x_aload_n 0 dX0_opens_61 rfl ?_
    have t10 : tg h8 x0 = 1 := by rw [e9]; exact g1
    refine x_get (v := .int (fI h8 x0 16)) fdX0_158 dX0_opens_62 t10 rfl ?_
    refine x_icmp_ne (tgt := 74) dX0_opens_65 (by decide) (fun c11 => ?_) (fun c11 => ?_)
    · replace hq := hq.1 c11
      refine xP.pick (lv' := [(0, rv x0), (2, .int x2), (3, rv x3)]) [0, 2, 3] rfl ?_
      exact uX0_opens_74 hq
    · replace hq := hq.2 c11
      refine x_aload_n 3 dX0_opens_68 rfl ?_
      refine x_iload_n 2 dX0_opens_69 rfl ?_
      refine x_iconst (v := 1) dX0_opens_70 (by decide) ?_
      have t12 : tg h8 x3 = 12 := by rw [e9]; exact g5
      obtain ⟨g13, g14, hq⟩ := hq
      refine x_callV (Yc := YX11_reset) (as := [.int x2, .int 1]) (st := []) q2867 mvX11_reset t12 rfl dX0_opens_71 (xle (xal1 (rv_cat _) (xal1 rfl (xal1 rfl xal0))) (by decide)) (xfr g13) (xlo xsw0 (by decide) g14) (xKv hq (fun h15 hq e17 => ?_) (fun _ _ q _ => q))
      replace hq := hq e17
      refine xP.pick (lv' := [(0, rv x0), (2, .int x2), (3, rv x3)]) [0, 2, 3] rfl ?_
      exact uX0_opens_74 hq
  · replace hq := hq.2 c4
    refine x_aload_n 3 dX0_opens_29 rfl ?_
    refine x_iload_n 2 dX0_opens_30 rfl ?_
    refine x_aload_n 0 dX0_opens_31 rfl ?_
    refine x_get (v := rv (fR h x0 5)) fdX0_102 dX0_opens_32 g1 rfl ?_
    refine x_sipush (v := 3000) dX0_opens_35 (by decide) ?_
    refine x_iload_n 1 dX0_opens_38 rfl ?_
    refine x_imul dX0_opens_39 ?_
    refine x_iload 4 dX0_opens_40 rfl ?_
    refine x_iadd dX0_opens_42 ?_
    obtain ⟨g18, hq⟩ := hq
    obtain ⟨i19, hq⟩ := hq
    refine x_bald g18 i19 dX0_opens_43 ?_
    obtain ⟨g20, hq⟩ := hq
    obtain ⟨g21, g22, hq⟩ := hq
    refine x_callV (Yc := YX11_add) (as := [.int x2, .int (aI h (fR h x0 5) (Int32.toNatClampNeg ((3000 * x1) + x4)))]) (st := []) q2859 mvX11_add g20 rfl dX0_opens_44 (xle (xal1 (rv_cat _) (xal1 rfl (xal1 rfl xal0))) (by decide)) (xfr g21) (xlo xsw0 (by decide) g22) (xKv hq (fun h23 hq e25 => ?_) (fun _ _ q _ => q))
    replace hq := hq e25
    refine x_iinc (lv' := [(4, .int (x4 + 1)), (0, rv x0), (1, .int x1), (2, .int x2), (3, rv x3)]) 4 dX0_opens_47 rfl (by decide) (by first | rfl | (simp [rv_cat, Value.category]; done) | (simp [rv_cat, Value.category]; decide)) ?_
    refine x_goto (tgt := 18) dX0_opens_50 (by decide) ?_
    refine xP.pick (lv' := [(0, rv x0), (1, .int x1), (2, .int x2), (3, rv x3), (4, .int (x4 + 1))]) [1, 2, 3, 4, 0] rfl ?_
    exact hq
set_option maxRecDepth 100000 in
def bX0_opens (G : xG) (fr lo : Nat) (x0 : Nat) (x1 : Int32) (h : xH) (Q : Outcome → xH → Prop) : Prop := tg h x0 = 1 ∧ tg h (fR h x0 13) = 100 ∧ vp_in x1 (ln h (fR h x0 13)) ∧ tg h (fR h x0 11) = 10 ∧ lX0_opens_18 G fr lo x0 x1 (aI h (fR h x0 13) (Int32.toNatClampNeg x1)) (fR h (fR h x0 11) 2306) 0 h Q
set_option maxRecDepth 100000 in
theorem uX0_opens {G : xG} {fr lo : Nat} {x0 : Nat} {x1 : Int32} {h : xH} {Q : Outcome → xH → Prop} (hq : bX0_opens G fr lo x0 x1 h Q) : xP G YX0_opens fr lo 0 [(0, rv x0), (1, .int x1)] [] h Q := by
  unfold bX0_opens at hq
  refine x_aload_n 0 dX0_opens_0 rfl ?_
  obtain ⟨g1, hq⟩ := hq
  refine x_get (v := rv (fR h x0 13)) fdX0_155 dX0_opens_1 g1 rfl ?_
  refine x_iload_n 1 dX0_opens_4 rfl ?_
  obtain ⟨g2, hq⟩ := hq
  obtain ⟨i3, hq⟩ := hq
  refine x_iald 0 (Or.inl rfl) g2 i3 dX0_opens_5 ?_
  refine x_istore_n (lv' := [(2, .int (aI h (fR h x0 13) (Int32.toNatClampNeg x1))), (0, rv x0), (1, .int x1)]) dX0_opens_6 (by decide) rfl ?_
  refine x_aload_n 1 dX0_opens_7 rfl ?_
  refine x_get (v := rv (fR h x0 11)) fdX0_151 dX0_opens_8 g1 rfl ?_
  obtain ⟨g4, hq⟩ := hq
  refine x_getN (v := rv (fR h (fR h x0 11) 2306)) gfX0_275 dX0_opens_11 g4 rfl ?_
  refine x_astore_n (lv' := [(3, rv (fR h (fR h x0 11) 2306)), (2, .int (aI h (fR h x0 13) (Int32.toNatClampNeg x1))), (0, rv x0), (1, .int x1)]) dX0_opens_14 (by decide) rfl ?_
  refine x_iconst (v := 0) dX0_opens_15 (by decide) ?_
  refine x_istore (lv' := [(4, .int 0), (3, rv (fR h (fR h x0 11) 2306)), (2, .int (aI h (fR h x0 13) (Int32.toNatClampNeg x1))), (0, rv x0), (1, .int x1)]) dX0_opens_16 (by decide) (by first | rfl | (simp [rv_cat, Value.category]; done) | (simp [rv_cat, Value.category]; decide)) ?_
  refine xP.pick (lv' := [(0, rv x0), (1, .int x1), (2, .int (aI h (fR h x0 13) (Int32.toNatClampNeg x1))), (3, rv (fR h (fR h x0 11) 2306)), (4, .int 0)]) [3, 4, 2, 1, 0] rfl ?_
  exact hq
theorem rX0_opens {G : xG} {fr lo : Nat} {x0 : Nat} {x1 : Int32} {h : xH} {Q : Outcome → xH → Prop} (hq : bX0_opens G fr lo x0 x1 h Q) : xR G YX0_opens fr lo [rv x0, .int x1] h Q := by
  show xP _ _ _ _ _ (lv_args 0 _) _ _ _
  rw [show lv_args 0 [rv x0, .int x1] = [(0, rv x0), (1, .int x1)] from (xla1 (rv_cat _) (xla1 rfl xla0))]
  exact uX0_opens hq
set_option maxRecDepth 100000 in
theorem dX0_keeps_0 : decode cX0_keeps 0 = .ok (.aload_n 0, 1) := by decide +kernel
set_option maxRecDepth 100000 in
theorem dX0_keeps_1 : decode cX0_keeps 1 = .ok (.getfield 151, 3) := by decide +kernel
set_option maxRecDepth 100000 in
theorem dX0_keeps_4 : decode cX0_keeps 4 = .ok (.getfield 275, 3) := by decide +kernel
set_option maxRecDepth 100000 in
theorem dX0_keeps_7 : decode cX0_keeps 7 = .ok (.astore_n 2, 1) := by decide +kernel
set_option maxRecDepth 100000 in
theorem dX0_keeps_8 : decode cX0_keeps 8 = .ok (.iconst 0, 1) := by decide +kernel
set_option maxRecDepth 100000 in
theorem dX0_keeps_9 : decode cX0_keeps 9 = .ok (.istore_n 3, 1) := by decide +kernel
set_option maxRecDepth 100000 in
theorem dX0_keeps_10 : decode cX0_keeps 10 = .ok (.aload_n 2, 1) := by decide +kernel
set_option maxRecDepth 100000 in
theorem dX0_keeps_11 : decode cX0_keeps 11 = .ok (.getfield 297, 3) := by decide +kernel
set_option maxRecDepth 100000 in
theorem dX0_keeps_14 : decode cX0_keeps 14 = .ok (.aload_n 0, 1) := by decide +kernel
set_option maxRecDepth 100000 in
theorem dX0_keeps_15 : decode cX0_keeps 15 = .ok (.getfield 155, 3) := by decide +kernel
set_option maxRecDepth 100000 in
theorem dX0_keeps_18 : decode cX0_keeps 18 = .ok (.iload_n 1, 1) := by decide +kernel
set_option maxRecDepth 100000 in
theorem dX0_keeps_19 : decode cX0_keeps 19 = .ok (.iaload, 1) := by decide +kernel
set_option maxRecDepth 100000 in
theorem dX0_keeps_20 : decode cX0_keeps 20 = .ok (.iaload, 1) := by decide +kernel
set_option maxRecDepth 100000 in
theorem dX0_keeps_21 : decode cX0_keeps 21 = .ok (.istore 4, 2) := by decide +kernel
set_option maxRecDepth 100000 in
theorem dX0_keeps_23 : decode cX0_keeps 23 = .ok (.iload 4, 2) := by decide +kernel
set_option maxRecDepth 100000 in
theorem dX0_keeps_25 : decode cX0_keeps 25 = .ok (.iconst (-1), 1) := by decide +kernel
set_option maxRecDepth 100000 in
theorem dX0_keeps_26 : decode cX0_keeps 26 = .ok (.if_icmp .eq 39, 3) := by decide +kernel
set_option maxRecDepth 100000 in
theorem dX0_keeps_29 : decode cX0_keeps 29 = .ok (.aload_n 0, 1) := by decide +kernel
set_option maxRecDepth 100000 in
theorem dX0_keeps_30 : decode cX0_keeps 30 = .ok (.getfield 165, 3) := by decide +kernel
set_option maxRecDepth 100000 in
theorem dX0_keeps_33 : decode cX0_keeps 33 = .ok (.sipush 3008, 3) := by decide +kernel
set_option maxRecDepth 100000 in
theorem dX0_keeps_36 : decode cX0_keeps 36 = .ok (.iload_n 1, 1) := by decide +kernel
set_option maxRecDepth 100000 in
theorem dX0_keeps_37 : decode cX0_keeps 37 = .ok (.imul, 1) := by decide +kernel
set_option maxRecDepth 100000 in
theorem dX0_keeps_38 : decode cX0_keeps 38 = .ok (.iload_n 3, 1) := by decide +kernel
set_option maxRecDepth 100000 in
theorem dX0_keeps_39 : decode cX0_keeps 39 = .ok (.iadd, 1) := by decide +kernel
set_option maxRecDepth 100000 in
theorem dX0_keeps_40 : decode cX0_keeps 40 = .ok (.aload_n 2, 1) := by decide +kernel
set_option maxRecDepth 100000 in
theorem dX0_keeps_41 : decode cX0_keeps 41 = .ok (.getfield 299, 3) := by decide +kernel
set_option maxRecDepth 100000 in
theorem dX0_keeps_44 : decode cX0_keeps 44 = .ok (.iload 4, 2) := by decide +kernel
set_option maxRecDepth 100000 in
theorem dX0_keeps_46 : decode cX0_keeps 46 = .ok (.laload, 1) := by decide +kernel
set_option maxRecDepth 100000 in
theorem dX0_keeps_47 : decode cX0_keeps 47 = .ok (.l2i, 1) := by decide +kernel
set_option maxRecDepth 100000 in
theorem dX0_keeps_48 : decode cX0_keeps 48 = .ok (.i2b, 1) := by decide +kernel
set_option maxRecDepth 100000 in
theorem dX0_keeps_49 : decode cX0_keeps 49 = .ok (.bastore, 1) := by decide +kernel
set_option maxRecDepth 100000 in
theorem dX0_keeps_50 : decode cX0_keeps 50 = .ok (.iinc 3 1, 3) := by decide +kernel
set_option maxRecDepth 100000 in
theorem dX0_keeps_53 : decode cX0_keeps 53 = .ok (.aload_n 2, 1) := by decide +kernel
set_option maxRecDepth 100000 in
theorem dX0_keeps_54 : decode cX0_keeps 54 = .ok (.getfield 303, 3) := by decide +kernel
set_option maxRecDepth 100000 in
theorem dX0_keeps_57 : decode cX0_keeps 57 = .ok (.iload 4, 2) := by decide +kernel
set_option maxRecDepth 100000 in
theorem dX0_keeps_59 : decode cX0_keeps 59 = .ok (.iaload, 1) := by decide +kernel
set_option maxRecDepth 100000 in
theorem dX0_keeps_60 : decode cX0_keeps 60 = .ok (.istore 4, 2) := by decide +kernel
set_option maxRecDepth 100000 in
theorem dX0_keeps_62 : decode cX0_keeps 62 = .ok (.goto (-39), 3) := by decide +kernel
set_option maxRecDepth 100000 in
theorem dX0_keeps_65 : decode cX0_keeps 65 = .ok (.aload_n 0, 1) := by decide +kernel
set_option maxRecDepth 100000 in
theorem dX0_keeps_66 : decode cX0_keeps 66 = .ok (.getfield 168, 3) := by decide +kernel
set_option maxRecDepth 100000 in
theorem dX0_keeps_69 : decode cX0_keeps 69 = .ok (.iload_n 1, 1) := by decide +kernel
set_option maxRecDepth 100000 in
theorem dX0_keeps_70 : decode cX0_keeps 70 = .ok (.iload_n 3, 1) := by decide +kernel
set_option maxRecDepth 100000 in
theorem dX0_keeps_71 : decode cX0_keeps 71 = .ok (.iastore, 1) := by decide +kernel
set_option maxRecDepth 100000 in
theorem dX0_keeps_72 : decode cX0_keeps 72 = .ok (.return_, 1) := by decide +kernel
def lX0_keeps_23 (G : xG) (fr lo : Nat) (x0 : Nat) (x1 : Int32) (x2 : Nat) (x3 : Int32) (x4 : Int32) (h : xH) (Q : Outcome → xH → Prop) : Prop := xP G YX0_keeps fr lo 23 [(0, rv x0), (1, .int x1), (2, rv x2), (3, .int x3), (4, .int x4)] [] h Q
set_option maxRecDepth 100000 in
def bX0_keeps_23 (G : xG) (fr lo : Nat) (x0 : Nat) (x1 : Int32) (x2 : Nat) (x3 : Int32) (x4 : Int32) (h : xH) (Q : Outcome → xH → Prop) : Prop := ((x4 = (-1) → tg h x0 = 1 ∧ tg h (fR h x0 20) = 100 ∧ vp_in x1 (ln h (fR h x0 20)) ∧ (∀ h5 : xH, h5 = tI h (fR h x0 20) (Int32.toNatClampNeg x1) x3 → Q (.returned none) h5)) ∧ (¬ x4 = (-1) → tg h x0 = 1 ∧ tg h x2 = 12 ∧ tg h (fR h x2 2826) = 101 ∧ vp_in x4 (ln h (fR h x2 2826)) ∧ tg h (fR h x0 19) = 103 ∧ xGB G < (fR h x0 19) ∧ vp_in ((3008 * x1) + x3) (ln h (fR h x0 19)) ∧ (∀ h14 : xH, h14 = tI h (fR h x0 19) (Int32.toNatClampNeg ((3008 * x1) + x3)) (vp_nar .byte ((Int32.toInt8 (Int64.toInt32 (aJ h (fR h x2 2826) (Int32.toNatClampNeg x4)))).toInt32)) → tg h14 (fR h14 x2 2825) = 100 ∧ vp_in x4 (ln h14 (fR h14 x2 2825)) ∧ lX0_keeps_23 G fr lo x0 x1 x2 (x3 + 1) (aI h14 (fR h14 x2 2825) (Int32.toNatClampNeg x4)) h14 Q)))
set_option maxRecDepth 100000 in
theorem uX0_keeps_23 {G : xG} {fr lo : Nat} {x0 : Nat} {x1 : Int32} {x2 : Nat} {x3 : Int32} {x4 : Int32} {h : xH} {Q : Outcome → xH → Prop} (hq : bX0_keeps_23 G fr lo x0 x1 x2 x3 x4 h Q) : xP G YX0_keeps fr lo 23 [(0, rv x0), (1, .int x1), (2, rv x2), (3, .int x3), (4, .int x4)] [] h Q := by
  unfold bX0_keeps_23 at hq
  refine x_iload 4 dX0_keeps_23 rfl ?_
  refine x_iconst (v := (-1)) dX0_keeps_25 (by decide) ?_
  refine x_icmp_eq (tgt := 65) dX0_keeps_26 (by decide) (fun c1 => ?_) (fun c1 => ?_)
  · replace hq := hq.1 c1
    refine x_aload_n 0 dX0_keeps_65 rfl ?_
    obtain ⟨g2, hq⟩ := hq
    refine x_get (v := rv (fR h x0 20)) fdX0_168 dX0_keeps_66 g2 rfl ?_
    refine x_iload_n 1 dX0_keeps_69 rfl ?_
    refine x_iload_n 3 dX0_keeps_70 rfl ?_
    obtain ⟨g3, hq⟩ := hq
    obtain ⟨i4, hq⟩ := hq
    obtain ⟨h5, e6⟩ : ∃ y, y = tI h (fR h x0 20) (Int32.toNatClampNeg x1) x3 := ⟨_, rfl⟩
    replace hq := hq h5 e6
    refine x_iast' g3 i4 dX0_keeps_71 e6 ?_
    exact x_vret rfl dX0_keeps_72 hq
  · replace hq := hq.2 c1
    refine x_aload_n 0 dX0_keeps_29 rfl ?_
    obtain ⟨g7, hq⟩ := hq
    refine x_get (v := rv (fR h x0 19)) fdX0_165 dX0_keeps_30 g7 rfl ?_
    refine x_sipush (v := 3008) dX0_keeps_33 (by decide) ?_
    refine x_iload_n 1 dX0_keeps_36 rfl ?_
    refine x_imul dX0_keeps_37 ?_
    refine x_iload_n 3 dX0_keeps_38 rfl ?_
    refine x_iadd dX0_keeps_39 ?_
    refine x_aload_n 2 dX0_keeps_40 rfl ?_
    obtain ⟨g8, hq⟩ := hq
    refine x_getN (v := rv (fR h x2 2826)) gfX0_299 dX0_keeps_41 g8 rfl ?_
    refine x_iload 4 dX0_keeps_44 rfl ?_
    obtain ⟨g9, hq⟩ := hq
    obtain ⟨i10, hq⟩ := hq
    refine x_lald g9 i10 dX0_keeps_46 ?_
    refine x_l2i dX0_keeps_47 ?_
    refine x_i2b dX0_keeps_48 ?_
    obtain ⟨g11, hq⟩ := hq
    obtain ⟨w12, hq⟩ := hq
    obtain ⟨i13, hq⟩ := hq
    obtain ⟨h14, e15⟩ : ∃ y, y = tI h (fR h x0 19) (Int32.toNatClampNeg ((3008 * x1) + x3)) (vp_nar .byte ((Int32.toInt8 (Int64.toInt32 (aJ h (fR h x2 2826) (Int32.toNatClampNeg x4)))).toInt32)) := ⟨_, rfl⟩
    replace hq := hq h14 e15
    refine x_bast' g11 (Or.inr w12) i13 dX0_keeps_49 e15 ?_
    refine x_iinc (lv' := [(3, .int (x3 + 1)), (0, rv x0), (1, .int x1), (2, rv x2), (4, .int x4)]) 3 dX0_keeps_50 rfl (by decide) (by first | rfl | (simp [rv_cat, Value.category]; done) | (simp [rv_cat, Value.category]; decide)) ?_
    refine x_aload_n 3 dX0_keeps_53 rfl ?_
    have t16 : tg h14 x2 = 12 := by rw [e15]; exact g8
    refine x_getN (v := rv (fR h14 x2 2825)) gfX0_303 dX0_keeps_54 t16 rfl ?_
    refine x_iload 4 dX0_keeps_57 rfl ?_
    obtain ⟨g17, hq⟩ := hq
    obtain ⟨i18, hq⟩ := hq
    refine x_iald 0 (Or.inl rfl) g17 i18 dX0_keeps_59 ?_
    refine x_istore (lv' := [(4, .int (aI h14 (fR h14 x2 2825) (Int32.toNatClampNeg x4))), (3, .int (x3 + 1)), (0, rv x0), (1, .int x1), (2, rv x2)]) dX0_keeps_60 (by decide) rfl ?_
    refine x_goto (tgt := 23) dX0_keeps_62 (by decide) ?_
    refine xP.pick (lv' := [(0, rv x0), (1, .int x1), (2, rv x2), (3, .int (x3 + 1)), (4, .int (aI h14 (fR h14 x2 2825) (Int32.toNatClampNeg x4)))]) [2, 3, 4, 1, 0] rfl ?_
    exact hq
set_option maxRecDepth 100000 in
def bX0_keeps (G : xG) (fr lo : Nat) (x0 : Nat) (x1 : Int32) (h : xH) (Q : Outcome → xH → Prop) : Prop := tg h x0 = 1 ∧ tg h (fR h x0 11) = 10 ∧ tg h (fR h (fR h x0 11) 2306) = 12 ∧ tg h (fR h x0 13) = 100 ∧ vp_in x1 (ln h (fR h x0 13)) ∧ tg h (fR h (fR h (fR h x0 11) 2306) 2818) = 100 ∧ vp_in (aI h (fR h x0 13) (Int32.toNatClampNeg x1)) (ln h (fR h (fR h (fR h x0 11) 2306) 2818)) ∧ lX0_keeps_23 G fr lo x0 x1 (fR h (fR h x0 11) 2306) 0 (aI h (fR h (fR h (fR h x0 11) 2306) 2818) (Int32.toNatClampNeg (aI h (fR h x0 13) (Int32.toNatClampNeg x1)))) h Q
set_option maxRecDepth 100000 in
theorem uX0_keeps {G : xG} {fr lo : Nat} {x0 : Nat} {x1 : Int32} {h : xH} {Q : Outcome → xH → Prop} (hq : bX0_keeps G fr lo x0 x1 h Q) : xP G YX0_keeps fr lo 0 [(0, rv x0), (1, .int x1)] [] h Q := by
  unfold bX0_keeps at hq
  refine x_aload_n 0 dX0_keeps_0 rfl ?_
  obtain ⟨g1, hq⟩ := hq
  refine x_get (v := rv (fR h x0 11)) fdX0_151 dX0_keeps_1 g1 rfl ?_
  obtain ⟨g2, hq⟩ := hq
  refine x_getN (v := rv (fR h (fR h x0 11) 2306)) gfX0_275 dX0_keeps_4 g2 rfl ?_
  refine x_astore_n (lv' := [(2, rv (fR h (fR h x0 11) 2306)), (0, rv x0), (1, .int x1)]) dX0_keeps_7 (by decide) rfl ?_
  refine x_iconst (v := 0) dX0_keeps_8 (by decide) ?_
  refine x_istore_n (lv' := [(3, .int 0), (2, rv (fR h (fR h x0 11) 2306)), (0, rv x0), (1, .int x1)]) dX0_keeps_9 (by decide) (by first | rfl | (simp [rv_cat, Value.category]; done) | (simp [rv_cat, Value.category]; decide)) ?_
  refine x_aload_n 1 dX0_keeps_10 rfl ?_
  obtain ⟨g3, hq⟩ := hq
  refine x_getN (v := rv (fR h (fR h (fR h x0 11) 2306) 2818)) gfX0_297 dX0_keeps_11 g3 rfl ?_
  refine x_aload_n 2 dX0_keeps_14 rfl ?_
  refine x_get (v := rv (fR h x0 13)) fdX0_155 dX0_keeps_15 g1 rfl ?_
  refine x_iload_n 3 dX0_keeps_18 rfl ?_
  obtain ⟨g4, hq⟩ := hq
  obtain ⟨i5, hq⟩ := hq
  refine x_iald 0 (Or.inl rfl) g4 i5 dX0_keeps_19 ?_
  obtain ⟨g6, hq⟩ := hq
  obtain ⟨i7, hq⟩ := hq
  refine x_iald 0 (Or.inl rfl) g6 i7 dX0_keeps_20 ?_
  refine x_istore (lv' := [(4, .int (aI h (fR h (fR h (fR h x0 11) 2306) 2818) (Int32.toNatClampNeg (aI h (fR h x0 13) (Int32.toNatClampNeg x1))))), (3, .int 0), (2, rv (fR h (fR h x0 11) 2306)), (0, rv x0), (1, .int x1)]) dX0_keeps_21 (by decide) rfl ?_
  refine xP.pick (lv' := [(0, rv x0), (1, .int x1), (2, rv (fR h (fR h x0 11) 2306)), (3, .int 0), (4, .int (aI h (fR h (fR h (fR h x0 11) 2306) 2818) (Int32.toNatClampNeg (aI h (fR h x0 13) (Int32.toNatClampNeg x1)))))]) [3, 4, 2, 1, 0] rfl ?_
  exact hq
theorem rX0_keeps {G : xG} {fr lo : Nat} {x0 : Nat} {x1 : Int32} {h : xH} {Q : Outcome → xH → Prop} (hq : bX0_keeps G fr lo x0 x1 h Q) : xR G YX0_keeps fr lo [rv x0, .int x1] h Q := by
  show xP _ _ _ _ _ (lv_args 0 _) _ _ _
  rw [show lv_args 0 [rv x0, .int x1] = [(0, rv x0), (1, .int x1)] from (xla1 (rv_cat _) (xla1 rfl xla0))]
  exact uX0_keeps hq
set_option maxRecDepth 100000 in
theorem dX0_where_0 : decode cX0_where 0 = .ok (.aload_n 0, 1) := by decide +kernel
set_option maxRecDepth 100000 in
theorem dX0_where_1 : decode cX0_where 1 = .ok (.getfield 188, 3) := by decide +kernel
set_option maxRecDepth 100000 in
theorem dX0_where_4 : decode cX0_where 4 = .ok (.ifCond .eq 23, 3) := by decide +kernel
set_option maxRecDepth 100000 in
theorem dX0_where_7 : decode cX0_where 7 = .ok (.aload_n 0, 1) := by decide +kernel
set_option maxRecDepth 100000 in
theorem dX0_where_8 : decode cX0_where 8 = .ok (.getfield 151, 3) := by decide +kernel
set_option maxRecDepth 100000 in
theorem dX0_where_11 : decode cX0_where 11 = .ok (.getfield 263, 3) := by decide +kernel
set_option maxRecDepth 100000 in
theorem dX0_where_14 : decode cX0_where 14 = .ok (.ifCond .le 13, 3) := by decide +kernel
set_option maxRecDepth 100000 in
theorem dX0_where_17 : decode cX0_where 17 = .ok (.aload_n 0, 1) := by decide +kernel
set_option maxRecDepth 100000 in
theorem dX0_where_18 : decode cX0_where 18 = .ok (.getfield 151, 3) := by decide +kernel
set_option maxRecDepth 100000 in
theorem dX0_where_21 : decode cX0_where 21 = .ok (.getfield 305, 3) := by decide +kernel
set_option maxRecDepth 100000 in
theorem dX0_where_24 : decode cX0_where 24 = .ok (.goto 4, 3) := by decide +kernel
set_option maxRecDepth 100000 in
theorem dX0_where_27 : decode cX0_where 27 = .ok (.iconst (-1), 1) := by decide +kernel
set_option maxRecDepth 100000 in
theorem dX0_where_28 : decode cX0_where 28 = .ok (.ireturn, 1) := by decide +kernel
set_option maxRecDepth 100000 in
def bX0_where_28 (G : xG) (fr lo : Nat) (s0 : Int32) (h : xH) (Q : Outcome → xH → Prop) : Prop := Q (.returned (some (.int s0))) h
set_option maxRecDepth 100000 in
theorem uX0_where_28 {G : xG} {fr lo : Nat} {s0 : Int32} {h : xH} {Q : Outcome → xH → Prop} (hq : bX0_where_28 G fr lo s0 h Q) : xP G YX0_where fr lo 28 [] [.int s0] h Q := by
  unfold bX0_where_28 at hq
  exact x_iret rfl rfl dX0_where_28 hq
set_option maxRecDepth 100000 in
def bX0_where_27 (G : xG) (fr lo : Nat) (h : xH) (Q : Outcome → xH → Prop) : Prop := bX0_where_28 G fr lo (-1) h Q
set_option maxRecDepth 100000 in
theorem uX0_where_27 {G : xG} {fr lo : Nat} {h : xH} {Q : Outcome → xH → Prop} (hq : bX0_where_27 G fr lo h Q) : xP G YX0_where fr lo 27 [] [] h Q := by
  unfold bX0_where_27 at hq
  refine x_iconst (v := (-1)) dX0_where_27 (by decide) ?_
  exact uX0_where_28 hq
set_option maxRecDepth 100000 in
def bX0_where (G : xG) (fr lo : Nat) (x0 : Nat) (h : xH) (Q : Outcome → xH → Prop) : Prop := tg h x0 = 1 ∧ (((fI h x0 18) = 0 → bX0_where_27 G fr lo h Q) ∧ (¬ (fI h x0 18) = 0 → tg h (fR h x0 11) = 10 ∧ (((fI h (fR h x0 11) 2326) ≤ 0 → bX0_where_27 G fr lo h Q) ∧ (¬ (fI h (fR h x0 11) 2326) ≤ 0 → bX0_where_28 G fr lo (fI h (fR h x0 11) 2327) h Q))))
set_option maxRecDepth 100000 in
theorem uX0_where {G : xG} {fr lo : Nat} {x0 : Nat} {h : xH} {Q : Outcome → xH → Prop} (hq : bX0_where G fr lo x0 h Q) : xP G YX0_where fr lo 0 [(0, rv x0)] [] h Q := by
  unfold bX0_where at hq
  refine x_aload_n 0 dX0_where_0 rfl ?_
  obtain ⟨g1, hq⟩ := hq
  refine x_get (v := .int (fI h x0 18)) fdX0_188 dX0_where_1 g1 rfl ?_
  refine x_if_eq (tgt := 27) dX0_where_4 (by decide) (fun c2 => ?_) (fun c2 => ?_)
  · replace hq := hq.1 c2
    refine xP.pick (lv' := []) [] rfl ?_
    exact uX0_where_27 hq
  · replace hq := hq.2 c2
    refine x_aload_n 0 dX0_where_7 rfl ?_
    refine x_get (v := rv (fR h x0 11)) fdX0_151 dX0_where_8 g1 rfl ?_
    obtain ⟨g3, hq⟩ := hq
    refine x_getN (v := .int (fI h (fR h x0 11) 2326)) gfX0_263 dX0_where_11 g3 rfl ?_
    refine x_if_le (tgt := 27) dX0_where_14 (by decide) (fun c4 => ?_) (fun c4 => ?_)
    · replace hq := hq.1 c4
      refine xP.pick (lv' := []) [] rfl ?_
      exact uX0_where_27 hq
    · replace hq := hq.2 c4
      refine x_aload_n 0 dX0_where_17 rfl ?_
      refine x_get (v := rv (fR h x0 11)) fdX0_151 dX0_where_18 g1 rfl ?_
      refine x_getN (v := .int (fI h (fR h x0 11) 2327)) gfX0_305 dX0_where_21 g3 rfl ?_
      refine x_goto (tgt := 28) dX0_where_24 (by decide) ?_
      refine xP.pick (lv' := []) [] rfl ?_
      exact uX0_where_28 hq
theorem rX0_where {G : xG} {fr lo : Nat} {x0 : Nat} {h : xH} {Q : Outcome → xH → Prop} (hq : bX0_where G fr lo x0 h Q) : xR G YX0_where fr lo [rv x0] h Q := by
  show xP _ _ _ _ _ (lv_args 0 _) _ _ _
  rw [show lv_args 0 [rv x0] = [(0, rv x0)] from (xla1 (rv_cat _) xla0)]
  exact uX0_where hq
set_option maxRecDepth 100000 in
theorem dX0_steps_0 : decode cX0_steps 0 = .ok (.aload_n 0, 1) := by decide +kernel
set_option maxRecDepth 100000 in
theorem dX0_steps_1 : decode cX0_steps 1 = .ok (.getfield 188, 3) := by decide +kernel
set_option maxRecDepth 100000 in
theorem dX0_steps_4 : decode cX0_steps 4 = .ok (.ifCond .eq 13, 3) := by decide +kernel
set_option maxRecDepth 100000 in
theorem dX0_steps_7 : decode cX0_steps 7 = .ok (.aload_n 0, 1) := by decide +kernel
set_option maxRecDepth 100000 in
theorem dX0_steps_8 : decode cX0_steps 8 = .ok (.getfield 151, 3) := by decide +kernel
set_option maxRecDepth 100000 in
theorem dX0_steps_11 : decode cX0_steps 11 = .ok (.getfield 308, 3) := by decide +kernel
set_option maxRecDepth 100000 in
theorem dX0_steps_14 : decode cX0_steps 14 = .ok (.goto 4, 3) := by decide +kernel
set_option maxRecDepth 100000 in
theorem dX0_steps_17 : decode cX0_steps 17 = .ok (.iconst (-1), 1) := by decide +kernel
set_option maxRecDepth 100000 in
theorem dX0_steps_18 : decode cX0_steps 18 = .ok (.ireturn, 1) := by decide +kernel
set_option maxRecDepth 100000 in
def bX0_steps_18 (G : xG) (fr lo : Nat) (s0 : Int32) (h : xH) (Q : Outcome → xH → Prop) : Prop := Q (.returned (some (.int s0))) h
set_option maxRecDepth 100000 in
theorem uX0_steps_18 {G : xG} {fr lo : Nat} {s0 : Int32} {h : xH} {Q : Outcome → xH → Prop} (hq : bX0_steps_18 G fr lo s0 h Q) : xP G YX0_steps fr lo 18 [] [.int s0] h Q := by
  unfold bX0_steps_18 at hq
  exact x_iret rfl rfl dX0_steps_18 hq
set_option maxRecDepth 100000 in
def bX0_steps (G : xG) (fr lo : Nat) (x0 : Nat) (h : xH) (Q : Outcome → xH → Prop) : Prop := tg h x0 = 1 ∧ (((fI h x0 18) = 0 → bX0_steps_18 G fr lo (-1) h Q) ∧ (¬ (fI h x0 18) = 0 → tg h (fR h x0 11) = 10 ∧ bX0_steps_18 G fr lo (fI h (fR h x0 11) 2328) h Q))
set_option maxRecDepth 100000 in
theorem uX0_steps {G : xG} {fr lo : Nat} {x0 : Nat} {h : xH} {Q : Outcome → xH → Prop} (hq : bX0_steps G fr lo x0 h Q) : xP G YX0_steps fr lo 0 [(0, rv x0)] [] h Q := by
  unfold bX0_steps at hq
  refine x_aload_n 0 dX0_steps_0 rfl ?_
  obtain ⟨g1, hq⟩ := hq
  refine x_get (v := .int (fI h x0 18)) fdX0_188 dX0_steps_1 g1 rfl ?_
  refine x_if_eq (tgt := 17) dX0_steps_4 (by decide) (fun c2 => ?_) (fun c2 => ?_)
  · replace hq := hq.1 c2
    refine x_iconst (v := (-1)) dX0_steps_17 (by decide) ?_
    refine xP.pick (lv' := []) [] rfl ?_
    exact uX0_steps_18 hq
  · replace hq := hq.2 c2
    refine x_aload_n 0 dX0_steps_7 rfl ?_
    refine x_get (v := rv (fR h x0 11)) fdX0_151 dX0_steps_8 g1 rfl ?_
    obtain ⟨g3, hq⟩ := hq
    refine x_getN (v := .int (fI h (fR h x0 11) 2328)) gfX0_308 dX0_steps_11 g3 rfl ?_
    refine x_goto (tgt := 18) dX0_steps_14 (by decide) ?_
    refine xP.pick (lv' := []) [] rfl ?_
    exact uX0_steps_18 hq
theorem rX0_steps {G : xG} {fr lo : Nat} {x0 : Nat} {h : xH} {Q : Outcome → xH → Prop} (hq : bX0_steps G fr lo x0 h Q) : xR G YX0_steps fr lo [rv x0] h Q := by
  show xP _ _ _ _ _ (lv_args 0 _) _ _ _
  rw [show lv_args 0 [rv x0] = [(0, rv x0)] from (xla1 (rv_cat _) xla0)]
  exact uX0_steps hq
set_option maxRecDepth 100000 in
theorem dX0_file_0 : decode cX0_file 0 = .ok (.aload_n 0, 1) := by decide +kernel
set_option maxRecDepth 100000 in
theorem dX0_file_1 : decode cX0_file 1 = .ok (.getfield 188, 3) := by decide +kernel
set_option maxRecDepth 100000 in
theorem dX0_file_4 : decode cX0_file 4 = .ok (.ifCond .eq 30, 3) := by decide +kernel
set_option maxRecDepth 100000 in
theorem dX0_file_7 : decode cX0_file 7 = .ok (.iload_n 1, 1) := by decide +kernel
set_option maxRecDepth 100000 in
theorem dX0_file_8 : decode cX0_file 8 = .ok (.ifCond .lt 26, 3) := by decide +kernel
set_option maxRecDepth 100000 in
theorem dX0_file_11 : decode cX0_file 11 = .ok (.iload_n 1, 1) := by decide +kernel
set_option maxRecDepth 100000 in
theorem dX0_file_12 : decode cX0_file 12 = .ok (.aload_n 0, 1) := by decide +kernel
set_option maxRecDepth 100000 in
theorem dX0_file_13 : decode cX0_file 13 = .ok (.getfield 217, 3) := by decide +kernel
set_option maxRecDepth 100000 in
theorem dX0_file_16 : decode cX0_file 16 = .ok (.if_icmp .ge 18, 3) := by decide +kernel
set_option maxRecDepth 100000 in
theorem dX0_file_19 : decode cX0_file 19 = .ok (.iload_n 2, 1) := by decide +kernel
set_option maxRecDepth 100000 in
theorem dX0_file_20 : decode cX0_file 20 = .ok (.iconst (-1), 1) := by decide +kernel
set_option maxRecDepth 100000 in
theorem dX0_file_21 : decode cX0_file 21 = .ok (.if_icmp .lt 13, 3) := by decide +kernel
set_option maxRecDepth 100000 in
theorem dX0_file_24 : decode cX0_file 24 = .ok (.iload_n 2, 1) := by decide +kernel
set_option maxRecDepth 100000 in
theorem dX0_file_25 : decode cX0_file 25 = .ok (.aload_n 0, 1) := by decide +kernel
set_option maxRecDepth 100000 in
theorem dX0_file_26 : decode cX0_file 26 = .ok (.getfield 168, 3) := by decide +kernel
set_option maxRecDepth 100000 in
theorem dX0_file_29 : decode cX0_file 29 = .ok (.iload_n 1, 1) := by decide +kernel
set_option maxRecDepth 100000 in
theorem dX0_file_30 : decode cX0_file 30 = .ok (.iaload, 1) := by decide +kernel
set_option maxRecDepth 100000 in
theorem dX0_file_31 : decode cX0_file 31 = .ok (.if_icmp .lt 5, 3) := by decide +kernel
set_option maxRecDepth 100000 in
theorem dX0_file_34 : decode cX0_file 34 = .ok (.iconst (-1), 1) := by decide +kernel
set_option maxRecDepth 100000 in
theorem dX0_file_35 : decode cX0_file 35 = .ok (.ireturn, 1) := by decide +kernel
set_option maxRecDepth 100000 in
theorem dX0_file_36 : decode cX0_file 36 = .ok (.iload_n 2, 1) := by decide +kernel
set_option maxRecDepth 100000 in
theorem dX0_file_37 : decode cX0_file 37 = .ok (.ifCond .ge 12, 3) := by decide +kernel
set_option maxRecDepth 100000 in
theorem dX0_file_40 : decode cX0_file 40 = .ok (.aload_n 0, 1) := by decide +kernel
set_option maxRecDepth 100000 in
theorem dX0_file_41 : decode cX0_file 41 = .ok (.getfield 168, 3) := by decide +kernel
set_option maxRecDepth 100000 in
theorem dX0_file_44 : decode cX0_file 44 = .ok (.iload_n 1, 1) := by decide +kernel
set_option maxRecDepth 100000 in
theorem dX0_file_45 : decode cX0_file 45 = .ok (.iaload, 1) := by decide +kernel
set_option maxRecDepth 100000 in
theorem dX0_file_46 : decode cX0_file 46 = .ok (.goto 19, 3) := by decide +kernel
set_option maxRecDepth 100000 in
theorem dX0_file_49 : decode cX0_file 49 = .ok (.aload_n 0, 1) := by decide +kernel
set_option maxRecDepth 100000 in
theorem dX0_file_50 : decode cX0_file 50 = .ok (.getfield 165, 3) := by decide +kernel
set_option maxRecDepth 100000 in
theorem dX0_file_53 : decode cX0_file 53 = .ok (.sipush 3008, 3) := by decide +kernel
set_option maxRecDepth 100000 in
theorem dX0_file_56 : decode cX0_file 56 = .ok (.iload_n 1, 1) := by decide +kernel
set_option maxRecDepth 100000 in
theorem dX0_file_57 : decode cX0_file 57 = .ok (.imul, 1) := by decide +kernel
set_option maxRecDepth 100000 in
theorem dX0_file_58 : decode cX0_file 58 = .ok (.iload_n 2, 1) := by decide +kernel
set_option maxRecDepth 100000 in
theorem dX0_file_59 : decode cX0_file 59 = .ok (.iadd, 1) := by decide +kernel
set_option maxRecDepth 100000 in
theorem dX0_file_60 : decode cX0_file 60 = .ok (.baload, 1) := by decide +kernel
set_option maxRecDepth 100000 in
theorem dX0_file_61 : decode cX0_file 61 = .ok (.sipush 255, 3) := by decide +kernel
set_option maxRecDepth 100000 in
theorem dX0_file_64 : decode cX0_file 64 = .ok (.iand, 1) := by decide +kernel
set_option maxRecDepth 100000 in
theorem dX0_file_65 : decode cX0_file 65 = .ok (.ireturn, 1) := by decide +kernel
set_option maxRecDepth 100000 in
def bX0_file_65 (G : xG) (fr lo : Nat) (s0 : Int32) (h : xH) (Q : Outcome → xH → Prop) : Prop := Q (.returned (some (.int s0))) h
set_option maxRecDepth 100000 in
theorem uX0_file_65 {G : xG} {fr lo : Nat} {s0 : Int32} {h : xH} {Q : Outcome → xH → Prop} (hq : bX0_file_65 G fr lo s0 h Q) : xP G YX0_file fr lo 65 [] [.int s0] h Q := by
  unfold bX0_file_65 at hq
  exact x_iret rfl rfl dX0_file_65 hq
set_option maxRecDepth 100000 in
def bX0_file_34 (G : xG) (fr lo : Nat) (h : xH) (Q : Outcome → xH → Prop) : Prop := Q (.returned (some (.int (-1)))) h
set_option maxRecDepth 100000 in
theorem uX0_file_34 {G : xG} {fr lo : Nat} {h : xH} {Q : Outcome → xH → Prop} (hq : bX0_file_34 G fr lo h Q) : xP G YX0_file fr lo 34 [] [] h Q := by
  unfold bX0_file_34 at hq
  refine x_iconst (v := (-1)) dX0_file_34 (by decide) ?_
  exact x_iret rfl rfl dX0_file_35 hq
set_option maxRecDepth 100000 in
def bX0_file (G : xG) (fr lo : Nat) (x0 : Nat) (x1 : Int32) (x2 : Int32) (h : xH) (Q : Outcome → xH → Prop) : Prop := tg h x0 = 1 ∧ (((fI h x0 18) = 0 → bX0_file_34 G fr lo h Q) ∧ (¬ (fI h x0 18) = 0 → ((x1 < 0 → bX0_file_34 G fr lo h Q) ∧ (¬ x1 < 0 → (((fI h x0 14) ≤ x1 → bX0_file_34 G fr lo h Q) ∧ (¬ (fI h x0 14) ≤ x1 → ((x2 < (-1) → bX0_file_34 G fr lo h Q) ∧ (¬ x2 < (-1) → tg h (fR h x0 20) = 100 ∧ vp_in x1 (ln h (fR h x0 20)) ∧ ((x2 < (aI h (fR h x0 20) (Int32.toNatClampNeg x1)) → ((0 ≤ x2 → tg h (fR h x0 19) = 103 ∧ vp_in ((3008 * x1) + x2) (ln h (fR h x0 19)) ∧ bX0_file_65 G fr lo ((aI h (fR h x0 19) (Int32.toNatClampNeg ((3008 * x1) + x2))) &&& 255) h Q) ∧ (¬ 0 ≤ x2 → vp_in x1 (ln h (fR h x0 20)) ∧ bX0_file_65 G fr lo (aI h (fR h x0 20) (Int32.toNatClampNeg x1)) h Q))) ∧ (¬ x2 < (aI h (fR h x0 20) (Int32.toNatClampNeg x1)) → bX0_file_34 G fr lo h Q))))))))))
set_option maxRecDepth 100000 in
theorem uX0_file {G : xG} {fr lo : Nat} {x0 : Nat} {x1 : Int32} {x2 : Int32} {h : xH} {Q : Outcome → xH → Prop} (hq : bX0_file G fr lo x0 x1 x2 h Q) : xP G YX0_file fr lo 0 [(0, rv x0), (1, .int x1), (2, .int x2)] [] h Q := by
  unfold bX0_file at hq
  refine x_aload_n 0 dX0_file_0 rfl ?_
  obtain ⟨g1, hq⟩ := hq
  refine x_get (v := .int (fI h x0 18)) fdX0_188 dX0_file_1 g1 rfl ?_
  refine x_if_eq (tgt := 34) dX0_file_4 (by decide) (fun c2 => ?_) (fun c2 => ?_)
  · replace hq := hq.1 c2
    refine xP.pick (lv' := []) [] rfl ?_
    exact uX0_file_34 hq
  · replace hq := hq.2 c2
    refine x_iload_n 1 dX0_file_7 rfl ?_
    refine x_if_lt (tgt := 34) dX0_file_8 (by decide) (fun c3 => ?_) (fun c3 => ?_)
    · replace hq := hq.1 c3
      refine xP.pick (lv' := []) [] rfl ?_
      exact uX0_file_34 hq
    · replace hq := hq.2 c3
      refine x_iload_n 1 dX0_file_11 rfl ?_
      refine x_aload_n 0 dX0_file_12 rfl ?_
      refine x_get (v := .int (fI h x0 14)) fdX0_217 dX0_file_13 g1 rfl ?_
      refine x_icmp_ge (tgt := 34) dX0_file_16 (by decide) (fun c4 => ?_) (fun c4 => ?_)
      · replace hq := hq.1 c4
        refine xP.pick (lv' := []) [] rfl ?_
        exact uX0_file_34 hq
      · replace hq := hq.2 c4
        refine x_iload_n 2 dX0_file_19 rfl ?_
        refine x_iconst (v := (-1)) dX0_file_20 (by decide) ?_
        refine x_icmp_lt (tgt := 34) dX0_file_21 (by decide) (fun c5 => ?_) (fun c5 => ?_)
        · replace hq := hq.1 c5
          refine xP.pick (lv' := []) [] rfl ?_
          exact uX0_file_34 hq
        · replace hq := hq.2 c5
          refine x_iload_n 2 dX0_file_24 rfl ?_
          refine x_aload_n 0 dX0_file_25 rfl ?_
          refine x_get (v := rv (fR h x0 20)) fdX0_168 dX0_file_26 g1 rfl ?_
          refine x_iload_n 1 dX0_file_29 rfl ?_
          obtain ⟨g6, hq⟩ := hq
          obtain ⟨i7, hq⟩ := hq
          refine x_iald 0 (Or.inl rfl) g6 i7 dX0_file_30 ?_
          refine x_icmp_lt (tgt := 36) dX0_file_31 (by decide) (fun c8 => ?_) (fun c8 => ?_)
          · replace hq := hq.1 c8
            refine x_iload_n 2 dX0_file_36 rfl ?_
            refine x_if_ge (tgt := 49) dX0_file_37 (by decide) (fun c9 => ?_) (fun c9 => ?_)
            · replace hq := hq.1 c9
              refine x_aload_n 0 dX0_file_49 rfl ?_
              refine x_get (v := rv (fR h x0 19)) fdX0_165 dX0_file_50 g1 rfl ?_
              refine x_sipush (v := 3008) dX0_file_53 (by decide) ?_
              refine x_iload_n 1 dX0_file_56 rfl ?_
              refine x_imul dX0_file_57 ?_
              refine x_iload_n 2 dX0_file_58 rfl ?_
              refine x_iadd dX0_file_59 ?_
              obtain ⟨g10, hq⟩ := hq
              obtain ⟨i11, hq⟩ := hq
              refine x_bald g10 i11 dX0_file_60 ?_
              refine x_sipush (v := 255) dX0_file_61 (by decide) ?_
              refine x_iand dX0_file_64 ?_
              refine xP.pick (lv' := []) [] rfl ?_
              exact uX0_file_65 hq
            · replace hq := hq.2 c9
              refine x_aload_n 0 dX0_file_40 rfl ?_
              refine x_get (v := rv (fR h x0 20)) fdX0_168 dX0_file_41 g1 rfl ?_
              refine x_iload_n 1 dX0_file_44 rfl ?_
              obtain ⟨i12, hq⟩ := hq
              refine x_iald 0 (Or.inl rfl) g6 i12 dX0_file_45 ?_
              refine x_goto (tgt := 65) dX0_file_46 (by decide) ?_
              refine xP.pick (lv' := []) [] rfl ?_
              exact uX0_file_65 hq
          · replace hq := hq.2 c8
            refine xP.pick (lv' := []) [] rfl ?_
            exact uX0_file_34 hq
theorem rX0_file {G : xG} {fr lo : Nat} {x0 : Nat} {x1 : Int32} {x2 : Int32} {h : xH} {Q : Outcome → xH → Prop} (hq : bX0_file G fr lo x0 x1 x2 h Q) : xR G YX0_file fr lo [rv x0, .int x1, .int x2] h Q := by
  show xP _ _ _ _ _ (lv_args 0 _) _ _ _
  rw [show lv_args 0 [rv x0, .int x1, .int x2] = [(0, rv x0), (1, .int x1), (2, .int x2)] from (xla1 (rv_cat _) (xla1 rfl (xla1 rfl xla0)))]
  exact uX0_file hq
set_option maxRecDepth 100000 in
theorem dX0_about_0 : decode cX0_about 0 = .ok (.aload_n 0, 1) := by decide +kernel
set_option maxRecDepth 100000 in
theorem dX0_about_1 : decode cX0_about 1 = .ok (.getfield 184, 3) := by decide +kernel
set_option maxRecDepth 100000 in
theorem dX0_about_4 : decode cX0_about 4 = .ok (.ifnull 15, 3) := by decide +kernel
set_option maxRecDepth 100000 in
theorem dX0_about_7 : decode cX0_about 7 = .ok (.iload_n 1, 1) := by decide +kernel
set_option maxRecDepth 100000 in
theorem dX0_about_8 : decode cX0_about 8 = .ok (.iconst 2, 1) := by decide +kernel
set_option maxRecDepth 100000 in
theorem dX0_about_9 : decode cX0_about 9 = .ok (.if_icmp .le 12, 3) := by decide +kernel
set_option maxRecDepth 100000 in
theorem dX0_about_12 : decode cX0_about 12 = .ok (.aload_n 0, 1) := by decide +kernel
set_option maxRecDepth 100000 in
theorem dX0_about_13 : decode cX0_about 13 = .ok (.getfield 188, 3) := by decide +kernel
set_option maxRecDepth 100000 in
theorem dX0_about_16 : decode cX0_about 16 = .ok (.ifCond .ne 5, 3) := by decide +kernel
set_option maxRecDepth 100000 in
theorem dX0_about_19 : decode cX0_about 19 = .ok (.iconst (-1), 1) := by decide +kernel
set_option maxRecDepth 100000 in
theorem dX0_about_20 : decode cX0_about 20 = .ok (.ireturn, 1) := by decide +kernel
set_option maxRecDepth 100000 in
theorem dX0_about_21 : decode cX0_about 21 = .ok (.iload_n 1, 1) := by decide +kernel
set_option maxRecDepth 100000 in
theorem dX0_about_22 : decode cX0_about 22 = .ok (.tableswitch 95 0 6 #[42, 47, 58, 63, 71, 79, 87], 42) := by decide +kernel
set_option maxRecDepth 100000 in
theorem dX0_about_64 : decode cX0_about 64 = .ok (.aload_n 0, 1) := by decide +kernel
set_option maxRecDepth 100000 in
theorem dX0_about_65 : decode cX0_about 65 = .ok (.getfield 213, 3) := by decide +kernel
set_option maxRecDepth 100000 in
theorem dX0_about_68 : decode cX0_about 68 = .ok (.ireturn, 1) := by decide +kernel
set_option maxRecDepth 100000 in
theorem dX0_about_69 : decode cX0_about 69 = .ok (.aload_n 0, 1) := by decide +kernel
set_option maxRecDepth 100000 in
theorem dX0_about_70 : decode cX0_about 70 = .ok (.getfield 119, 3) := by decide +kernel
set_option maxRecDepth 100000 in
theorem dX0_about_73 : decode cX0_about 73 = .ok (.getfield 311, 3) := by decide +kernel
set_option maxRecDepth 100000 in
theorem dX0_about_76 : decode cX0_about 76 = .ok (.invokevirtual 315, 3) := by decide +kernel
set_option maxRecDepth 100000 in
theorem dX0_about_79 : decode cX0_about 79 = .ok (.ireturn, 1) := by decide +kernel
set_option maxRecDepth 100000 in
theorem dX0_about_80 : decode cX0_about 80 = .ok (.aload_n 0, 1) := by decide +kernel
set_option maxRecDepth 100000 in
theorem dX0_about_81 : decode cX0_about 81 = .ok (.getfield 217, 3) := by decide +kernel
set_option maxRecDepth 100000 in
theorem dX0_about_84 : decode cX0_about 84 = .ok (.ireturn, 1) := by decide +kernel
set_option maxRecDepth 100000 in
theorem dX0_about_85 : decode cX0_about 85 = .ok (.aload_n 0, 1) := by decide +kernel
set_option maxRecDepth 100000 in
theorem dX0_about_86 : decode cX0_about 86 = .ok (.getfield 151, 3) := by decide +kernel
set_option maxRecDepth 100000 in
theorem dX0_about_89 : decode cX0_about 89 = .ok (.getfield 320, 3) := by decide +kernel
set_option maxRecDepth 100000 in
theorem dX0_about_92 : decode cX0_about 92 = .ok (.ireturn, 1) := by decide +kernel
set_option maxRecDepth 100000 in
theorem dX0_about_93 : decode cX0_about 93 = .ok (.aload_n 0, 1) := by decide +kernel
set_option maxRecDepth 100000 in
theorem dX0_about_94 : decode cX0_about 94 = .ok (.getfield 151, 3) := by decide +kernel
set_option maxRecDepth 100000 in
theorem dX0_about_97 : decode cX0_about 97 = .ok (.getfield 323, 3) := by decide +kernel
set_option maxRecDepth 100000 in
theorem dX0_about_100 : decode cX0_about 100 = .ok (.ireturn, 1) := by decide +kernel
set_option maxRecDepth 100000 in
theorem dX0_about_101 : decode cX0_about 101 = .ok (.aload_n 0, 1) := by decide +kernel
set_option maxRecDepth 100000 in
theorem dX0_about_102 : decode cX0_about 102 = .ok (.getfield 151, 3) := by decide +kernel
set_option maxRecDepth 100000 in
theorem dX0_about_105 : decode cX0_about 105 = .ok (.getfield 326, 3) := by decide +kernel
set_option maxRecDepth 100000 in
theorem dX0_about_108 : decode cX0_about 108 = .ok (.ireturn, 1) := by decide +kernel
set_option maxRecDepth 100000 in
theorem dX0_about_109 : decode cX0_about 109 = .ok (.aload_n 0, 1) := by decide +kernel
set_option maxRecDepth 100000 in
theorem dX0_about_110 : decode cX0_about 110 = .ok (.getfield 151, 3) := by decide +kernel
set_option maxRecDepth 100000 in
theorem dX0_about_113 : decode cX0_about 113 = .ok (.getfield 329, 3) := by decide +kernel
set_option maxRecDepth 100000 in
theorem dX0_about_116 : decode cX0_about 116 = .ok (.ireturn, 1) := by decide +kernel
set_option maxRecDepth 100000 in
theorem dX0_about_117 : decode cX0_about 117 = .ok (.iconst (-1), 1) := by decide +kernel
set_option maxRecDepth 100000 in
theorem dX0_about_118 : decode cX0_about 118 = .ok (.ireturn, 1) := by decide +kernel
set_option maxRecDepth 100000 in
def bX0_about_21 (G : xG) (fr lo : Nat) (x0 : Nat) (x1 : Int32) (h : xH) (Q : Outcome → xH → Prop) : Prop := ((x1 = 0 → tg h x0 = 1 ∧ Q (.returned (some (.int (fI h x0 15)))) h) ∧ (x1 = 1 → tg h x0 = 1 ∧ tg h (fR h x0 8) = 3 ∧ tg h (fR h (fR h x0 8) 522) = 29 ∧ 1 ≤ fr ∧ 12 ≤ lo ∧ xRi G YJ2_size (fr - 1) (lo - 12) [rv (fR h (fR h x0 8) 522)] h (fun x10 h9 => xext h h9 → Q (.returned (some (.int x10))) h9) (fun r h2 => Q (.threw r) h2)) ∧ (x1 = 2 → tg h x0 = 1 ∧ Q (.returned (some (.int (fI h x0 14)))) h) ∧ (x1 = 3 → tg h x0 = 1 ∧ tg h (fR h x0 11) = 10 ∧ Q (.returned (some (.int (fI h (fR h x0 11) 2330)))) h) ∧ (x1 = 4 → tg h x0 = 1 ∧ tg h (fR h x0 11) = 10 ∧ Q (.returned (some (.int (fI h (fR h x0 11) 2325)))) h) ∧ (x1 = 5 → tg h x0 = 1 ∧ tg h (fR h x0 11) = 10 ∧ Q (.returned (some (.int (fI h (fR h x0 11) 2331)))) h) ∧ (x1 = 6 → tg h x0 = 1 ∧ tg h (fR h x0 11) = 10 ∧ Q (.returned (some (.int (fI h (fR h x0 11) 2324)))) h) ∧ (¬ x1 = 0 → ¬ x1 = 1 → ¬ x1 = 2 → ¬ x1 = 3 → ¬ x1 = 4 → ¬ x1 = 5 → ¬ x1 = 6 → Q (.returned (some (.int (-1)))) h))
set_option maxRecDepth 100000 in
theorem uX0_about_21 {G : xG} {fr lo : Nat} {x0 : Nat} {x1 : Int32} {h : xH} {Q : Outcome → xH → Prop} (hq : bX0_about_21 G fr lo x0 x1 h Q) : xP G YX0_about fr lo 21 [(0, rv x0), (1, .int x1)] [] h Q := by
  unfold bX0_about_21 at hq
  refine x_iload_n 1 dX0_about_21 rfl ?_
  by_cases c1 : x1 = 0
  · replace hq := hq.1 c1
    refine x_tin (tgt := 64) (off := 42) 0 c1 dX0_about_22 (by decide) (by decide) (by decide) (by decide) ?_
    refine x_aload_n 0 dX0_about_64 rfl ?_
    obtain ⟨g2, hq⟩ := hq
    refine x_get (v := .int (fI h x0 15)) fdX0_213 dX0_about_65 g2 rfl ?_
    exact x_iret rfl rfl dX0_about_68 hq
  replace hq := hq.2
  by_cases c3 : x1 = 1
  · replace hq := hq.1 c3
    refine x_tin (tgt := 69) (off := 47) 1 c3 dX0_about_22 (by decide) (by decide) (by decide) (by decide) ?_
    refine x_aload_n 0 dX0_about_69 rfl ?_
    obtain ⟨g4, hq⟩ := hq
    refine x_get (v := rv (fR h x0 8)) fdX0_119 dX0_about_70 g4 rfl ?_
    obtain ⟨g5, hq⟩ := hq
    refine x_getN (v := rv (fR h (fR h x0 8) 522)) gfX0_311 dX0_about_73 g5 rfl ?_
    obtain ⟨g6, hq⟩ := hq
    obtain ⟨g7, g8, hq⟩ := hq
    refine x_callV (Yc := YJ2_size) (as := []) (st := []) q3197 mvJ2_size g6 rfl dX0_about_76 (xle (xal1 (rv_cat _) xal0) (by decide)) (xfr g7) (xlo xsw0 (by decide) g8) (xKi hq (fun x10 h9 hq e11 => ?_) (fun _ _ q _ => q))
    replace hq := hq e11
    exact x_iret rfl rfl dX0_about_79 hq
  replace hq := hq.2
  by_cases c12 : x1 = 2
  · replace hq := hq.1 c12
    refine x_tin (tgt := 80) (off := 58) 2 c12 dX0_about_22 (by decide) (by decide) (by decide) (by decide) ?_
    refine x_aload_n 0 dX0_about_80 rfl ?_
    obtain ⟨g13, hq⟩ := hq
    refine x_get (v := .int (fI h x0 14)) fdX0_217 dX0_about_81 g13 rfl ?_
    exact x_iret rfl rfl dX0_about_84 hq
  replace hq := hq.2
  by_cases c14 : x1 = 3
  · replace hq := hq.1 c14
    refine x_tin (tgt := 85) (off := 63) 3 c14 dX0_about_22 (by decide) (by decide) (by decide) (by decide) ?_
    refine x_aload_n 0 dX0_about_85 rfl ?_
    obtain ⟨g15, hq⟩ := hq
    refine x_get (v := rv (fR h x0 11)) fdX0_151 dX0_about_86 g15 rfl ?_
    obtain ⟨g16, hq⟩ := hq
    refine x_getN (v := .int (fI h (fR h x0 11) 2330)) gfX0_320 dX0_about_89 g16 rfl ?_
    exact x_iret rfl rfl dX0_about_92 hq
  replace hq := hq.2
  by_cases c17 : x1 = 4
  · replace hq := hq.1 c17
    refine x_tin (tgt := 93) (off := 71) 4 c17 dX0_about_22 (by decide) (by decide) (by decide) (by decide) ?_
    refine x_aload_n 0 dX0_about_93 rfl ?_
    obtain ⟨g18, hq⟩ := hq
    refine x_get (v := rv (fR h x0 11)) fdX0_151 dX0_about_94 g18 rfl ?_
    obtain ⟨g19, hq⟩ := hq
    refine x_getN (v := .int (fI h (fR h x0 11) 2325)) gfX0_323 dX0_about_97 g19 rfl ?_
    exact x_iret rfl rfl dX0_about_100 hq
  replace hq := hq.2
  by_cases c20 : x1 = 5
  · replace hq := hq.1 c20
    refine x_tin (tgt := 101) (off := 79) 5 c20 dX0_about_22 (by decide) (by decide) (by decide) (by decide) ?_
    refine x_aload_n 0 dX0_about_101 rfl ?_
    obtain ⟨g21, hq⟩ := hq
    refine x_get (v := rv (fR h x0 11)) fdX0_151 dX0_about_102 g21 rfl ?_
    obtain ⟨g22, hq⟩ := hq
    refine x_getN (v := .int (fI h (fR h x0 11) 2331)) gfX0_326 dX0_about_105 g22 rfl ?_
    exact x_iret rfl rfl dX0_about_108 hq
  replace hq := hq.2
  by_cases c23 : x1 = 6
  · replace hq := hq.1 c23
    refine x_tin (tgt := 109) (off := 87) 6 c23 dX0_about_22 (by decide) (by decide) (by decide) (by decide) ?_
    refine x_aload_n 0 dX0_about_109 rfl ?_
    obtain ⟨g24, hq⟩ := hq
    refine x_get (v := rv (fR h x0 11)) fdX0_151 dX0_about_110 g24 rfl ?_
    obtain ⟨g25, hq⟩ := hq
    refine x_getN (v := .int (fI h (fR h x0 11) 2324)) gfX0_329 dX0_about_113 g25 rfl ?_
    exact x_iret rfl rfl dX0_about_116 hq
  replace hq := hq.2
  replace hq := hq c1 c3 c12 c14 c17 c20 c23
  have nc1 := lv_neT c1 (show (0 : Int32).toInt = 0 from by decide)
  have nc3 := lv_neT c3 (show (1 : Int32).toInt = 1 from by decide)
  have nc12 := lv_neT c12 (show (2 : Int32).toInt = 2 from by decide)
  have nc14 := lv_neT c14 (show (3 : Int32).toInt = 3 from by decide)
  have nc17 := lv_neT c17 (show (4 : Int32).toInt = 4 from by decide)
  have nc20 := lv_neT c20 (show (5 : Int32).toInt = 5 from by decide)
  have nc23 := lv_neT c23 (show (6 : Int32).toInt = 6 from by decide)
  refine x_tout (tgt := 117) dX0_about_22 (by omega) (by decide) ?_
  refine x_iconst (v := (-1)) dX0_about_117 (by decide) ?_
  exact x_iret rfl rfl dX0_about_118 hq
set_option maxRecDepth 100000 in
def bX0_about_19 (G : xG) (fr lo : Nat) (h : xH) (Q : Outcome → xH → Prop) : Prop := Q (.returned (some (.int (-1)))) h
set_option maxRecDepth 100000 in
theorem uX0_about_19 {G : xG} {fr lo : Nat} {h : xH} {Q : Outcome → xH → Prop} (hq : bX0_about_19 G fr lo h Q) : xP G YX0_about fr lo 19 [] [] h Q := by
  unfold bX0_about_19 at hq
  refine x_iconst (v := (-1)) dX0_about_19 (by decide) ?_
  exact x_iret rfl rfl dX0_about_20 hq
set_option maxRecDepth 100000 in
def bX0_about (G : xG) (fr lo : Nat) (x0 : Nat) (x1 : Int32) (h : xH) (Q : Outcome → xH → Prop) : Prop := tg h x0 = 1 ∧ (((fR h x0 12) = 0 → bX0_about_19 G fr lo h Q) ∧ (¬ (fR h x0 12) = 0 → ((x1 ≤ 2 → bX0_about_21 G fr lo x0 x1 h Q) ∧ (¬ x1 ≤ 2 → ((¬ (fI h x0 18) = 0 → bX0_about_21 G fr lo x0 x1 h Q) ∧ ((fI h x0 18) = 0 → bX0_about_19 G fr lo h Q))))))
set_option maxRecDepth 100000 in
theorem uX0_about {G : xG} {fr lo : Nat} {x0 : Nat} {x1 : Int32} {h : xH} {Q : Outcome → xH → Prop} (hq : bX0_about G fr lo x0 x1 h Q) : xP G YX0_about fr lo 0 [(0, rv x0), (1, .int x1)] [] h Q := by
  unfold bX0_about at hq
  refine x_aload_n 0 dX0_about_0 rfl ?_
  obtain ⟨g1, hq⟩ := hq
  refine x_get (v := rv (fR h x0 12)) fdX0_184 dX0_about_1 g1 rfl ?_
  refine x_ifnull (tgt := 19) dX0_about_4 (by decide) (fun c2 => ?_) (fun c2 => ?_)
  · replace hq := hq.1 c2
    refine xP.pick (lv' := []) [] rfl ?_
    exact uX0_about_19 hq
  · replace hq := hq.2 c2
    refine x_iload_n 1 dX0_about_7 rfl ?_
    refine x_iconst (v := 2) dX0_about_8 (by decide) ?_
    refine x_icmp_le (tgt := 21) dX0_about_9 (by decide) (fun c3 => ?_) (fun c3 => ?_)
    · replace hq := hq.1 c3
      exact uX0_about_21 hq
    · replace hq := hq.2 c3
      refine x_aload_n 0 dX0_about_12 rfl ?_
      refine x_get (v := .int (fI h x0 18)) fdX0_188 dX0_about_13 g1 rfl ?_
      refine x_if_ne (tgt := 21) dX0_about_16 (by decide) (fun c4 => ?_) (fun c4 => ?_)
      · replace hq := hq.1 c4
        exact uX0_about_21 hq
      · replace hq := hq.2 c4
        refine xP.pick (lv' := []) [] rfl ?_
        exact uX0_about_19 hq
theorem rX0_about {G : xG} {fr lo : Nat} {x0 : Nat} {x1 : Int32} {h : xH} {Q : Outcome → xH → Prop} (hq : bX0_about G fr lo x0 x1 h Q) : xR G YX0_about fr lo [rv x0, .int x1] h Q := by
  show xP _ _ _ _ _ (lv_args 0 _) _ _ _
  rw [show lv_args 0 [rv x0, .int x1] = [(0, rv x0), (1, .int x1)] from (xla1 (rv_cat _) (xla1 rfl xla0))]
  exact uX0_about hq
