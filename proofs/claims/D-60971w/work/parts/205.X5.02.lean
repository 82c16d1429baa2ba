/-! PascalHouse$Compiler, walked (3) -/
set_option maxRecDepth 100000 in
theorem dX5_function_0 : decode cX5_function 0 = .ok (.aload_n 1, 1) := by decide +kernel
set_option maxRecDepth 100000 in
theorem dX5_function_1 : decode cX5_function 1 = .ok (.getfield 199, 3) := by decide +kernel
set_option maxRecDepth 100000 in
theorem dX5_function_4 : decode cX5_function 4 = .ok (.iconst 3, 1) := by decide +kernel
set_option maxRecDepth 100000 in
theorem dX5_function_5 : decode cX5_function 5 = .ok (.if_icmp .ne 26, 3) := by decide +kernel
set_option maxRecDepth 100000 in
theorem dX5_function_8 : decode cX5_function 8 = .ok (.aload_n 0, 1) := by decide +kernel
set_option maxRecDepth 100000 in
theorem dX5_function_9 : decode cX5_function 9 = .ok (.aload_n 1, 1) := by decide +kernel
set_option maxRecDepth 100000 in
theorem dX5_function_10 : decode cX5_function 10 = .ok (.getfield 492, 3) := by decide +kernel
set_option maxRecDepth 100000 in
theorem dX5_function_13 : decode cX5_function 13 = .ok (.aload_n 2, 1) := by decide +kernel
set_option maxRecDepth 100000 in
theorem dX5_function_14 : decode cX5_function 14 = .ok (.iload_n 3, 1) := by decide +kernel
set_option maxRecDepth 100000 in
theorem dX5_function_15 : decode cX5_function 15 = .ok (.iload 4, 2) := by decide +kernel
set_option maxRecDepth 100000 in
theorem dX5_function_17 : decode cX5_function 17 = .ok (.invokevirtual 754, 3) := by decide +kernel
set_option maxRecDepth 100000 in
theorem dX5_function_20 : decode cX5_function 20 = .ok (.aload_n 1, 1) := by decide +kernel
set_option maxRecDepth 100000 in
theorem dX5_function_21 : decode cX5_function 21 = .ok (.getfield 492, 3) := by decide +kernel
set_option maxRecDepth 100000 in
theorem dX5_function_24 : decode cX5_function 24 = .ok (.getfield 538, 3) := by decide +kernel
set_option maxRecDepth 100000 in
theorem dX5_function_27 : decode cX5_function 27 = .ok (.invokestatic 788, 3) := by decide +kernel
set_option maxRecDepth 100000 in
theorem dX5_function_30 : decode cX5_function 30 = .ok (.areturn, 1) := by decide +kernel
set_option maxRecDepth 100000 in
theorem dX5_function_31 : decode cX5_function 31 = .ok (.aload_n 1, 1) := by decide +kernel
set_option maxRecDepth 100000 in
theorem dX5_function_32 : decode cX5_function 32 = .ok (.getfield 112, 3) := by decide +kernel
set_option maxRecDepth 100000 in
theorem dX5_function_35 : decode cX5_function 35 = .ok (.bipush 19, 2) := by decide +kernel
set_option maxRecDepth 100000 in
theorem dX5_function_37 : decode cX5_function 37 = .ok (.if_icmp .le 7, 3) := by decide +kernel
set_option maxRecDepth 100000 in
theorem dX5_function_40 : decode cX5_function 40 = .ok (.iconst 1, 1) := by decide +kernel
set_option maxRecDepth 100000 in
theorem dX5_function_41 : decode cX5_function 41 = .ok (.goto 4, 3) := by decide +kernel
set_option maxRecDepth 100000 in
theorem dX5_function_44 : decode cX5_function 44 = .ok (.iconst 0, 1) := by decide +kernel
set_option maxRecDepth 100000 in
theorem dX5_function_45 : decode cX5_function 45 = .ok (.istore 5, 2) := by decide +kernel
set_option maxRecDepth 100000 in
theorem dX5_function_47 : decode cX5_function 47 = .ok (.iload_n 3, 1) := by decide +kernel
set_option maxRecDepth 100000 in
theorem dX5_function_48 : decode cX5_function 48 = .ok (.iconst 1, 1) := by decide +kernel
set_option maxRecDepth 100000 in
theorem dX5_function_49 : decode cX5_function 49 = .ok (.if_icmp .gt 12, 3) := by decide +kernel
set_option maxRecDepth 100000 in
theorem dX5_function_52 : decode cX5_function 52 = .ok (.iload_n 3, 1) := by decide +kernel
set_option maxRecDepth 100000 in
theorem dX5_function_53 : decode cX5_function 53 = .ok (.ifCond .ne 17, 3) := by decide +kernel
set_option maxRecDepth 100000 in
theorem dX5_function_56 : decode cX5_function 56 = .ok (.iload 5, 2) := by decide +kernel
set_option maxRecDepth 100000 in
theorem dX5_function_58 : decode cX5_function 58 = .ok (.ifCond .ne 12, 3) := by decide +kernel
set_option maxRecDepth 100000 in
theorem dX5_function_61 : decode cX5_function 61 = .ok (.aload_n 0, 1) := by decide +kernel
set_option maxRecDepth 100000 in
theorem dX5_function_62 : decode cX5_function 62 = .ok (.bipush 9, 2) := by decide +kernel
set_option maxRecDepth 100000 in
theorem dX5_function_64 : decode cX5_function 64 = .ok (.iload 4, 2) := by decide +kernel
set_option maxRecDepth 100000 in
theorem dX5_function_66 : decode cX5_function 66 = .ok (.invokevirtual 163, 3) := by decide +kernel
set_option maxRecDepth 100000 in
theorem dX5_function_69 : decode cX5_function 69 = .ok (.athrow, 1) := by decide +kernel
set_option maxRecDepth 100000 in
theorem dX5_function_70 : decode cX5_function 70 = .ok (.iload 5, 2) := by decide +kernel
set_option maxRecDepth 100000 in
theorem dX5_function_72 : decode cX5_function 72 = .ok (.ifCond .eq 120, 3) := by decide +kernel
set_option maxRecDepth 100000 in
theorem dX5_function_75 : decode cX5_function 75 = .ok (.iload_n 3, 1) := by decide +kernel
set_option maxRecDepth 100000 in
theorem dX5_function_76 : decode cX5_function 76 = .ok (.ifCond .ne 13, 3) := by decide +kernel
set_option maxRecDepth 100000 in
theorem dX5_function_79 : decode cX5_function 79 = .ok (.aload_n 0, 1) := by decide +kernel
set_option maxRecDepth 100000 in
theorem dX5_function_80 : decode cX5_function 80 = .ok (.iconst 1, 1) := by decide +kernel
set_option maxRecDepth 100000 in
theorem dX5_function_81 : decode cX5_function 81 = .ok (.iload 4, 2) := by decide +kernel
set_option maxRecDepth 100000 in
theorem dX5_function_83 : decode cX5_function 83 = .ok (.invokevirtual 777, 3) := by decide +kernel
set_option maxRecDepth 100000 in
theorem dX5_function_86 : decode cX5_function 86 = .ok (.goto 8, 3) := by decide +kernel
set_option maxRecDepth 100000 in
theorem dX5_function_89 : decode cX5_function 89 = .ok (.aload_n 0, 1) := by decide +kernel
set_option maxRecDepth 100000 in
theorem dX5_function_90 : decode cX5_function 90 = .ok (.aload_n 2, 1) := by decide +kernel
set_option maxRecDepth 100000 in
theorem dX5_function_91 : decode cX5_function 91 = .ok (.invokevirtual 765, 3) := by decide +kernel
set_option maxRecDepth 100000 in
theorem dX5_function_94 : decode cX5_function 94 = .ok (.astore 6, 2) := by decide +kernel
set_option maxRecDepth 100000 in
theorem dX5_function_96 : decode cX5_function 96 = .ok (.aload 6, 2) := by decide +kernel
set_option maxRecDepth 100000 in
theorem dX5_function_98 : decode cX5_function 98 = .ok (.ifnonnull 22, 3) := by decide +kernel
set_option maxRecDepth 100000 in
theorem dX5_function_101 : decode cX5_function 101 = .ok (.aload_n 0, 1) := by decide +kernel
set_option maxRecDepth 100000 in
theorem dX5_function_102 : decode cX5_function 102 = .ok (.aload_n 2, 1) := by decide +kernel
set_option maxRecDepth 100000 in
theorem dX5_function_103 : decode cX5_function 103 = .ok (.invokevirtual 654, 3) := by decide +kernel
set_option maxRecDepth 100000 in
theorem dX5_function_106 : decode cX5_function 106 = .ok (.astore 7, 2) := by decide +kernel
set_option maxRecDepth 100000 in
theorem dX5_function_108 : decode cX5_function 108 = .ok (.aload_n 0, 1) := by decide +kernel
set_option maxRecDepth 100000 in
theorem dX5_function_109 : decode cX5_function 109 = .ok (.bipush 7, 2) := by decide +kernel
set_option maxRecDepth 100000 in
theorem dX5_function_111 : decode cX5_function 111 = .ok (.aload_n 0, 1) := by decide +kernel
set_option maxRecDepth 100000 in
theorem dX5_function_112 : decode cX5_function 112 = .ok (.aload_n 2, 1) := by decide +kernel
set_option maxRecDepth 100000 in
theorem dX5_function_113 : decode cX5_function 113 = .ok (.invokevirtual 624, 3) := by decide +kernel
set_option maxRecDepth 100000 in
theorem dX5_function_116 : decode cX5_function 116 = .ok (.invokevirtual 163, 3) := by decide +kernel
set_option maxRecDepth 100000 in
theorem dX5_function_119 : decode cX5_function 119 = .ok (.athrow, 1) := by decide +kernel
set_option maxRecDepth 100000 in
theorem dX5_function_120 : decode cX5_function 120 = .ok (.aload_n 1, 1) := by decide +kernel
set_option maxRecDepth 100000 in
theorem dX5_function_121 : decode cX5_function 121 = .ok (.getfield 112, 3) := by decide +kernel
set_option maxRecDepth 100000 in
theorem dX5_function_124 : decode cX5_function 124 = .ok (.bipush 21, 2) := by decide +kernel
set_option maxRecDepth 100000 in
theorem dX5_function_126 : decode cX5_function 126 = .ok (.if_icmp .ne 26, 3) := by decide +kernel
set_option maxRecDepth 100000 in
theorem dX5_function_129 : decode cX5_function 129 = .ok (.aload 6, 2) := by decide +kernel
set_option maxRecDepth 100000 in
theorem dX5_function_131 : decode cX5_function 131 = .ok (.getfield 249, 3) := by decide +kernel
set_option maxRecDepth 100000 in
theorem dX5_function_134 : decode cX5_function 134 = .ok (.invokevirtual 768, 3) := by decide +kernel
set_option maxRecDepth 100000 in
theorem dX5_function_137 : decode cX5_function 137 = .ok (.ifCond .ne 15, 3) := by decide +kernel
set_option maxRecDepth 100000 in
theorem dX5_function_140 : decode cX5_function 140 = .ok (.aload_n 0, 1) := by decide +kernel
set_option maxRecDepth 100000 in
theorem dX5_function_141 : decode cX5_function 141 = .ok (.bipush 7, 2) := by decide +kernel
set_option maxRecDepth 100000 in
theorem dX5_function_143 : decode cX5_function 143 = .ok (.aload_n 0, 1) := by decide +kernel
set_option maxRecDepth 100000 in
theorem dX5_function_144 : decode cX5_function 144 = .ok (.aload_n 2, 1) := by decide +kernel
set_option maxRecDepth 100000 in
theorem dX5_function_145 : decode cX5_function 145 = .ok (.invokevirtual 624, 3) := by decide +kernel
set_option maxRecDepth 100000 in
theorem dX5_function_148 : decode cX5_function 148 = .ok (.invokevirtual 163, 3) := by decide +kernel
set_option maxRecDepth 100000 in
theorem dX5_function_151 : decode cX5_function 151 = .ok (.athrow, 1) := by decide +kernel
set_option maxRecDepth 100000 in
theorem dX5_function_152 : decode cX5_function 152 = .ok (.aload_n 0, 1) := by decide +kernel
set_option maxRecDepth 100000 in
theorem dX5_function_153 : decode cX5_function 153 = .ok (.aload 6, 2) := by decide +kernel
set_option maxRecDepth 100000 in
theorem dX5_function_155 : decode cX5_function 155 = .ok (.invokevirtual 674, 3) := by decide +kernel
set_option maxRecDepth 100000 in
theorem dX5_function_158 : decode cX5_function 158 = .ok (.aload_n 0, 1) := by decide +kernel
set_option maxRecDepth 100000 in
theorem dX5_function_159 : decode cX5_function 159 = .ok (.getfield 62, 3) := by decide +kernel
set_option maxRecDepth 100000 in
theorem dX5_function_162 : decode cX5_function 162 = .ok (.aload_n 1, 1) := by decide +kernel
set_option maxRecDepth 100000 in
theorem dX5_function_163 : decode cX5_function 163 = .ok (.getfield 112, 3) := by decide +kernel
set_option maxRecDepth 100000 in
theorem dX5_function_166 : decode cX5_function 166 = .ok (.bipush 20, 2) := by decide +kernel
set_option maxRecDepth 100000 in
theorem dX5_function_168 : decode cX5_function 168 = .ok (.if_icmp .ne 8, 3) := by decide +kernel
set_option maxRecDepth 100000 in
theorem dX5_function_171 : decode cX5_function 171 = .ok (.bipush 80, 2) := by decide +kernel
set_option maxRecDepth 100000 in
theorem dX5_function_173 : decode cX5_function 173 = .ok (.goto 5, 3) := by decide +kernel
set_option maxRecDepth 100000 in
theorem dX5_function_176 : decode cX5_function 176 = .ok (.bipush 81, 2) := by decide +kernel
set_option maxRecDepth 100000 in
theorem dX5_function_178 : decode cX5_function 178 = .ok (.iconst 0, 1) := by decide +kernel
set_option maxRecDepth 100000 in
theorem dX5_function_179 : decode cX5_function 179 = .ok (.iconst 0, 1) := by decide +kernel
set_option maxRecDepth 100000 in
theorem dX5_function_180 : decode cX5_function 180 = .ok (.iconst 0, 1) := by decide +kernel
set_option maxRecDepth 100000 in
theorem dX5_function_181 : decode cX5_function 181 = .ok (.iload 4, 2) := by decide +kernel
set_option maxRecDepth 100000 in
theorem dX5_function_183 : decode cX5_function 183 = .ok (.invokevirtual 506, 3) := by decide +kernel
set_option maxRecDepth 100000 in
theorem dX5_function_186 : decode cX5_function 186 = .ok (.pop, 1) := by decide +kernel
set_option maxRecDepth 100000 in
theorem dX5_function_187 : decode cX5_function 187 = .ok (.aload_n 0, 1) := by decide +kernel
set_option maxRecDepth 100000 in
theorem dX5_function_188 : decode cX5_function 188 = .ok (.getfield 29, 3) := by decide +kernel
set_option maxRecDepth 100000 in
theorem dX5_function_191 : decode cX5_function 191 = .ok (.areturn, 1) := by decide +kernel
set_option maxRecDepth 100000 in
theorem dX5_function_192 : decode cX5_function 192 = .ok (.aload_n 0, 1) := by decide +kernel
set_option maxRecDepth 100000 in
theorem dX5_function_193 : decode cX5_function 193 = .ok (.aload_n 2, 1) := by decide +kernel
set_option maxRecDepth 100000 in
theorem dX5_function_194 : decode cX5_function 194 = .ok (.invokevirtual 654, 3) := by decide +kernel
set_option maxRecDepth 100000 in
theorem dX5_function_197 : decode cX5_function 197 = .ok (.astore 6, 2) := by decide +kernel
set_option maxRecDepth 100000 in
theorem dX5_function_199 : decode cX5_function 199 = .ok (.aload 6, 2) := by decide +kernel
set_option maxRecDepth 100000 in
theorem dX5_function_201 : decode cX5_function 201 = .ok (.invokevirtual 255, 3) := by decide +kernel
set_option maxRecDepth 100000 in
theorem dX5_function_204 : decode cX5_function 204 = .ok (.istore 7, 2) := by decide +kernel
set_option maxRecDepth 100000 in
theorem dX5_function_206 : decode cX5_function 206 = .ok (.aload_n 1, 1) := by decide +kernel
set_option maxRecDepth 100000 in
theorem dX5_function_207 : decode cX5_function 207 = .ok (.getfield 112, 3) := by decide +kernel
set_option maxRecDepth 100000 in
theorem dX5_function_210 : decode cX5_function 210 = .ok (.bipush 15, 2) := by decide +kernel
set_option maxRecDepth 100000 in
theorem dX5_function_212 : decode cX5_function 212 = .ok (.if_icmp .ge 8, 3) := by decide +kernel
set_option maxRecDepth 100000 in
theorem dX5_function_215 : decode cX5_function 215 = .ok (.iload 7, 2) := by decide +kernel
set_option maxRecDepth 100000 in
theorem dX5_function_217 : decode cX5_function 217 = .ok (.goto 52, 3) := by decide +kernel
set_option maxRecDepth 100000 in
theorem dX5_function_220 : decode cX5_function 220 = .ok (.aload_n 1, 1) := by decide +kernel
set_option maxRecDepth 100000 in
theorem dX5_function_221 : decode cX5_function 221 = .ok (.getfield 112, 3) := by decide +kernel
set_option maxRecDepth 100000 in
theorem dX5_function_224 : decode cX5_function 224 = .ok (.bipush 15, 2) := by decide +kernel
set_option maxRecDepth 100000 in
theorem dX5_function_226 : decode cX5_function 226 = .ok (.if_icmp .eq 21, 3) := by decide +kernel
set_option maxRecDepth 100000 in
theorem dX5_function_229 : decode cX5_function 229 = .ok (.aload_n 1, 1) := by decide +kernel
set_option maxRecDepth 100000 in
theorem dX5_function_230 : decode cX5_function 230 = .ok (.getfield 112, 3) := by decide +kernel
set_option maxRecDepth 100000 in
theorem dX5_function_233 : decode cX5_function 233 = .ok (.bipush 17, 2) := by decide +kernel
set_option maxRecDepth 100000 in
theorem dX5_function_235 : decode cX5_function 235 = .ok (.if_icmp .eq 12, 3) := by decide +kernel
set_option maxRecDepth 100000 in
theorem dX5_function_238 : decode cX5_function 238 = .ok (.aload_n 1, 1) := by decide +kernel
set_option maxRecDepth 100000 in
theorem dX5_function_239 : decode cX5_function 239 = .ok (.getfield 112, 3) := by decide +kernel
set_option maxRecDepth 100000 in
theorem dX5_function_242 : decode cX5_function 242 = .ok (.bipush 18, 2) := by decide +kernel
set_option maxRecDepth 100000 in
theorem dX5_function_244 : decode cX5_function 244 = .ok (.if_icmp .ne 11, 3) := by decide +kernel
set_option maxRecDepth 100000 in
theorem dX5_function_247 : decode cX5_function 247 = .ok (.aload 6, 2) := by decide +kernel
set_option maxRecDepth 100000 in
theorem dX5_function_249 : decode cX5_function 249 = .ok (.invokevirtual 318, 3) := by decide +kernel
set_option maxRecDepth 100000 in
theorem dX5_function_252 : decode cX5_function 252 = .ok (.goto 17, 3) := by decide +kernel
set_option maxRecDepth 100000 in
theorem dX5_function_255 : decode cX5_function 255 = .ok (.aload 6, 2) := by decide +kernel
set_option maxRecDepth 100000 in
theorem dX5_function_257 : decode cX5_function 257 = .ok (.aload_n 0, 1) := by decide +kernel
set_option maxRecDepth 100000 in
theorem dX5_function_258 : decode cX5_function 258 = .ok (.getfield 20, 3) := by decide +kernel
set_option maxRecDepth 100000 in
theorem dX5_function_261 : decode cX5_function 261 = .ok (.if_acmp .ne 7, 3) := by decide +kernel
set_option maxRecDepth 100000 in
theorem dX5_function_264 : decode cX5_function 264 = .ok (.iconst 1, 1) := by decide +kernel
set_option maxRecDepth 100000 in
theorem dX5_function_265 : decode cX5_function 265 = .ok (.goto 4, 3) := by decide +kernel
set_option maxRecDepth 100000 in
theorem dX5_function_268 : decode cX5_function 268 = .ok (.iconst 0, 1) := by decide +kernel
set_option maxRecDepth 100000 in
theorem dX5_function_269 : decode cX5_function 269 = .ok (.istore 8, 2) := by decide +kernel
set_option maxRecDepth 100000 in
theorem dX5_function_271 : decode cX5_function 271 = .ok (.iload 8, 2) := by decide +kernel
set_option maxRecDepth 100000 in
theorem dX5_function_273 : decode cX5_function 273 = .ok (.ifCond .ne 15, 3) := by decide +kernel
set_option maxRecDepth 100000 in
theorem dX5_function_276 : decode cX5_function 276 = .ok (.aload_n 0, 1) := by decide +kernel
set_option maxRecDepth 100000 in
theorem dX5_function_277 : decode cX5_function 277 = .ok (.bipush 7, 2) := by decide +kernel
set_option maxRecDepth 100000 in
theorem dX5_function_279 : decode cX5_function 279 = .ok (.aload_n 0, 1) := by decide +kernel
set_option maxRecDepth 100000 in
theorem dX5_function_280 : decode cX5_function 280 = .ok (.aload_n 2, 1) := by decide +kernel
set_option maxRecDepth 100000 in
theorem dX5_function_281 : decode cX5_function 281 = .ok (.invokevirtual 624, 3) := by decide +kernel
set_option maxRecDepth 100000 in
theorem dX5_function_284 : decode cX5_function 284 = .ok (.invokevirtual 163, 3) := by decide +kernel
set_option maxRecDepth 100000 in
theorem dX5_function_287 : decode cX5_function 287 = .ok (.athrow, 1) := by decide +kernel
set_option maxRecDepth 100000 in
theorem dX5_function_288 : decode cX5_function 288 = .ok (.aload_n 0, 1) := by decide +kernel
set_option maxRecDepth 100000 in
theorem dX5_function_289 : decode cX5_function 289 = .ok (.aload_n 1, 1) := by decide +kernel
set_option maxRecDepth 100000 in
theorem dX5_function_290 : decode cX5_function 290 = .ok (.getfield 112, 3) := by decide +kernel
set_option maxRecDepth 100000 in
theorem dX5_function_293 : decode cX5_function 293 = .ok (.aload 6, 2) := by decide +kernel
set_option maxRecDepth 100000 in
theorem dX5_function_295 : decode cX5_function 295 = .ok (.iload 4, 2) := by decide +kernel
set_option maxRecDepth 100000 in
theorem dX5_function_297 : decode cX5_function 297 = .ok (.invokevirtual 823, 3) := by decide +kernel
set_option maxRecDepth 100000 in
theorem dX5_function_300 : decode cX5_function 300 = .ok (.areturn, 1) := by decide +kernel
set_option maxRecDepth 100000 in
def bX5_function_269 (G : xG) (fr lo : Nat) (x0 : Nat) (x1 : Nat) (x2 : Nat) (x4 : Int32) (x6 : Nat) (s0 : Int32) (h : xH) (Q : Outcome → xH → Prop) : Prop := ((¬ s0 = 0 → tg h x1 = 9 ∧ tg h x0 = 6 ∧ 1 ≤ fr ∧ 16 ≤ lo ∧ xRr G YX5_worked (fr - 1) (lo - 16) [rv x0, .int (fI h x1 2051), rv x6, .int x4] h (fun x7 h6 => xext h h6 → Q (.returned (some (rv x7))) h6) (fun r h2 => Q (.threw r) h2)) ∧ (s0 = 0 → tg h x0 = 6 ∧ 1 ≤ fr ∧ 16 ≤ lo ∧ xRi G YX5_firstOf (fr - 1) (lo - 16) [rv x0, rv x2] h (fun x13 h12 => xext h h12 → 1 ≤ fr ∧ 14 ≤ lo ∧ xRr G YX5_fault (fr - 1) (lo - 14) [rv x0, .int 7, .int x13] h12 (fun x19 h18 => xext h12 h18 → (∃ r21, x19 = r21 + 1 ∧ Q (.threw r21) h18)) (fun r h2 => Q (.threw r) h2)) (fun r h2 => Q (.threw r) h2)))
set_option maxRecDepth 100000 in
theorem uX5_function_269 {G : xG} {fr lo : Nat} {x0 : Nat} {x1 : Nat} {x2 : Nat} {x4 : Int32} {x6 : Nat} {s0 : Int32} {h : xH} {Q : Outcome → xH → Prop} (hq : bX5_function_269 G fr lo x0 x1 x2 x4 x6 s0 h Q) : xP G YX5_function fr lo 269 [(0, rv x0), (1, rv x1), (2, rv x2), (4, .int x4), (6, rv x6)] [.int s0] h Q := by
  unfold bX5_function_269 at hq
  refine x_istore (lv' := [(8, .int s0), (0, rv x0), (1, rv x1), (2, rv x2), (4, .int x4), (6, rv x6)]) dX5_function_269 (by decide) rfl ?_
  refine x_iload 0 dX5_function_271 rfl ?_
  refine x_if_ne (tgt := 288) dX5_function_273 (by decide) (fun c1 => ?_) (fun c1 => ?_)
  · replace hq := hq.1 c1
    refine x_aload_n 1 dX5_function_288 rfl ?_
    refine x_aload_n 2 dX5_function_289 rfl ?_
    obtain ⟨g2, hq⟩ := hq
    refine x_getN (v := .int (fI h x1 2051)) gfX5_112 dX5_function_290 g2 rfl ?_
    refine x_aload 5 dX5_function_293 rfl ?_
    refine x_iload 4 dX5_function_295 rfl ?_
    obtain ⟨g3, hq⟩ := hq
    obtain ⟨g4, g5, hq⟩ := hq
    refine x_callV (Yc := YX5_worked) (as := [.int (fI h x1 2051), rv x6, .int x4]) (st := []) q2641 mvX5_worked g3 rfl dX5_function_297 (xle (xal1 (rv_cat _) (xal1 rfl (xal1 (rv_cat _) (xal1 rfl xal0)))) (by decide)) (xfr g4) (xlo xsw0 (by decide) g5) (xKr hq (fun x7 h6 hq e8 => ?_) (fun _ _ q _ => q))
    replace hq := hq e8
    exact x_aret rfl xty_O dX5_function_300 hq
  · replace hq := hq.2 c1
    refine x_aload_n 1 dX5_function_276 rfl ?_
    refine x_bipush (v := 7) dX5_function_277 (by decide) ?_
    refine x_aload_n 1 dX5_function_279 rfl ?_
    refine x_aload_n 3 dX5_function_280 rfl ?_
    obtain ⟨g9, hq⟩ := hq
    obtain ⟨g10, g11, hq⟩ := hq
    refine x_callV (Yc := YX5_firstOf) (as := [rv x2]) (st := [.int 7, rv x0]) q2510 mvX5_firstOf g9 rfl dX5_function_281 (xle (xal1 (rv_cat _) (xal1 (rv_cat _) xal0)) (by decide)) (xfr g10) (xlo (xsw1 rfl (xsw1 (rv_cat _) xsw0)) (by decide) g11) (xKi hq (fun x13 h12 hq e14 => ?_) (fun _ _ q _ => q))
    replace hq := hq e14
    have t15 : tg h12 x0 = 6 := e14.tg g9 (by decide)
    obtain ⟨g16, g17, hq⟩ := hq
    refine x_callV (Yc := YX5_fault) (as := [.int 7, .int x13]) (st := []) q2087 mvX5_fault t15 rfl dX5_function_284 (xle (xal1 (rv_cat _) (xal1 rfl (xal1 rfl xal0))) (by decide)) (xfr g16) (xlo xsw0 (by decide) g17) (xKr hq (fun x19 h18 hq e20 => ?_) (fun _ _ q _ => q))
    replace hq := hq e20
    obtain ⟨r21, g22, hq⟩ := hq
    rw [g22]
    exact x_athrow dX5_function_287 hq
set_option maxRecDepth 100000 in
def bX5_function_247 (G : xG) (fr lo : Nat) (x0 : Nat) (x1 : Nat) (x2 : Nat) (x4 : Int32) (x6 : Nat) (h : xH) (Q : Outcome → xH → Prop) : Prop := tg h x6 = 7 ∧ 1 ≤ fr ∧ 12 ≤ lo ∧ xRi G YX6_isOrdinal (fr - 1) (lo - 12) [rv x6] h (fun x5 h4 => xext h h4 → bX5_function_269 G fr lo x0 x1 x2 x4 x6 x5 h4 Q) (fun r h2 => Q (.threw r) h2)
set_option maxRecDepth 100000 in
theorem uX5_function_247 {G : xG} {fr lo : Nat} {x0 : Nat} {x1 : Nat} {x2 : Nat} {x4 : Int32} {x6 : Nat} {h : xH} {Q : Outcome → xH → Prop} (hq : bX5_function_247 G fr lo x0 x1 x2 x4 x6 h Q) : xP G YX5_function fr lo 247 [(0, rv x0), (1, rv x1), (2, rv x2), (4, .int x4), (6, rv x6)] [] h Q := by
  unfold bX5_function_247 at hq
  refine x_aload 4 dX5_function_247 rfl ?_
  obtain ⟨g1, hq⟩ := hq
  obtain ⟨g2, g3, hq⟩ := hq
  refine x_callV (Yc := YX6_isOrdinal) (as := []) (st := []) q2288 mvX6_isOrdinal g1 rfl dX5_function_249 (xle (xal1 (rv_cat _) xal0) (by decide)) (xfr g2) (xlo xsw0 (by decide) g3) (xKi hq (fun x5 h4 hq e6 => ?_) (fun _ _ q _ => q))
  replace hq := hq e6
  refine x_goto (tgt := 269) dX5_function_252 (by decide) ?_
  exact uX5_function_269 hq
set_option maxRecDepth 100000 in
def bX5_function_178 (G : xG) (fr lo : Nat) (x0 : Nat) (x4 : Int32) (s0 : Int32) (s1 : Nat) (h : xH) (Q : Outcome → xH → Prop) : Prop := tg h s1 = 3 ∧ 1 ≤ fr ∧ 17 ≤ lo ∧ xRi G YX2_put (fr - 1) (lo - 17) [rv s1, .int s0, .int 0, .int 0, .int 0, .int x4] h (fun x5 h4 => xext h h4 → tg h4 x0 = 6 ∧ Q (.returned (some (rv (fR h4 x0 1284)))) h4) (fun r h2 => Q (.threw r) h2)
set_option maxRecDepth 100000 in
theorem uX5_function_178 {G : xG} {fr lo : Nat} {x0 : Nat} {x4 : Int32} {s0 : Int32} {s1 : Nat} {h : xH} {Q : Outcome → xH → Prop} (hq : bX5_function_178 G fr lo x0 x4 s0 s1 h Q) : xP G YX5_function fr lo 178 [(0, rv x0), (4, .int x4)] [.int s0, rv s1] h Q := by
  unfold bX5_function_178 at hq
  refine x_iconst (v := 0) dX5_function_178 (by decide) ?_
  refine x_iconst (v := 0) dX5_function_179 (by decide) ?_
  refine x_iconst (v := 0) dX5_function_180 (by decide) ?_
  refine x_iload 1 dX5_function_181 rfl ?_
  obtain ⟨g1, hq⟩ := hq
  obtain ⟨g2, g3, hq⟩ := hq
  refine x_callV (Yc := YX2_put) (as := [.int s0, .int 0, .int 0, .int 0, .int x4]) (st := []) q2494 mvX2_put g1 rfl dX5_function_183 (xle (xal1 (rv_cat _) (xal1 rfl (xal1 rfl (xal1 rfl (xal1 rfl (xal1 rfl xal0)))))) (by decide)) (xfr g2) (xlo xsw0 (by decide) g3) (xKi hq (fun x5 h4 hq e6 => ?_) (fun _ _ q _ => q))
  replace hq := hq e6
  refine x_pop dX5_function_186 rfl ?_
  refine x_aload_n 0 dX5_function_187 rfl ?_
  obtain ⟨g7, hq⟩ := hq
  refine x_get (v := rv (fR h4 x0 1284)) fdX5_29 dX5_function_188 g7 rfl ?_
  exact x_aret rfl xty_O dX5_function_191 hq
set_option maxRecDepth 100000 in
def bX5_function_152 (G : xG) (fr lo : Nat) (x0 : Nat) (x1 : Nat) (x4 : Int32) (x6 : Nat) (h : xH) (Q : Outcome → xH → Prop) : Prop := tg h x0 = 6 ∧ 1 ≤ fr ∧ 13 ≤ lo ∧ xRv G YX5_address (fr - 1) (lo - 13) [rv x0, rv x6] h (fun h4 => xext h h4 → tg h4 x1 = 9 ∧ ((¬ (fI h4 x1 2051) = 20 → bX5_function_178 G fr lo x0 x4 81 (fR h4 x0 1281) h4 Q) ∧ ((fI h4 x1 2051) = 20 → bX5_function_178 G fr lo x0 x4 80 (fR h4 x0 1281) h4 Q))) (fun r h2 => Q (.threw r) h2)
set_option maxRecDepth 100000 in
theorem uX5_function_152 {G : xG} {fr lo : Nat} {x0 : Nat} {x1 : Nat} {x4 : Int32} {x6 : Nat} {h : xH} {Q : Outcome → xH → Prop} (hq : bX5_function_152 G fr lo x0 x1 x4 x6 h Q) : xP G YX5_function fr lo 152 [(0, rv x0), (1, rv x1), (4, .int x4), (6, rv x6)] [] h Q := by
  unfold bX5_function_152 at hq
  refine x_aload_n 0 dX5_function_152 rfl ?_
  refine x_aload 3 dX5_function_153 rfl ?_
  obtain ⟨g1, hq⟩ := hq
  obtain ⟨g2, g3, hq⟩ := hq
  refine x_callV (Yc := YX5_address) (as := [rv x6]) (st := []) q2594 mvX5_address g1 rfl dX5_function_155 (xle (xal1 (rv_cat _) (xal1 (rv_cat _) xal0)) (by decide)) (xfr g2) (xlo xsw0 (by decide) g3) (xKv hq (fun h4 hq e6 => ?_) (fun _ _ q _ => q))
  replace hq := hq e6
  refine x_aload_n 0 dX5_function_158 rfl ?_
  have t7 : tg h4 x0 = 6 := e6.tg g1 (by decide)
  refine x_get (v := rv (fR h4 x0 1281)) fdX5_62 dX5_function_159 t7 rfl ?_
  refine x_aload_n 1 dX5_function_162 rfl ?_
  obtain ⟨g8, hq⟩ := hq
  refine x_getN (v := .int (fI h4 x1 2051)) gfX5_112 dX5_function_163 g8 rfl ?_
  refine x_bipush (v := 20) dX5_function_166 (by decide) ?_
  refine x_icmp_ne (tgt := 176) dX5_function_168 (by decide) (fun c9 => ?_) (fun c9 => ?_)
  · replace hq := hq.1 c9
    refine x_bipush (v := 81) dX5_function_176 (by decide) ?_
    refine xP.pick (lv' := [(0, rv x0), (4, .int x4)]) [0, 2] rfl ?_
    exact uX5_function_178 hq
  · replace hq := hq.2 c9
    refine x_bipush (v := 80) dX5_function_171 (by decide) ?_
    refine x_goto (tgt := 178) dX5_function_173 (by decide) ?_
    refine xP.pick (lv' := [(0, rv x0), (4, .int x4)]) [0, 2] rfl ?_
    exact uX5_function_178 hq
set_option maxRecDepth 100000 in
def bX5_function_94 (G : xG) (fr lo : Nat) (x0 : Nat) (x1 : Nat) (x2 : Nat) (x4 : Int32) (s0 : Nat) (h : xH) (Q : Outcome → xH → Prop) : Prop := ((¬ s0 = 0 → tg h x1 = 9 ∧ ((¬ (fI h x1 2051) = 21 → bX5_function_152 G fr lo x0 x1 x4 s0 h Q) ∧ ((fI h x1 2051) = 21 → tg h s0 = 9 ∧ tg h (fR h s0 2050) = 7 ∧ 1 ≤ fr ∧ 12 ≤ lo ∧ xRi G YX6_isText (fr - 1) (lo - 12) [rv (fR h s0 2050)] h (fun x9 h8 => xext h h8 → ((¬ x9 = 0 → bX5_function_152 G fr lo x0 x1 x4 s0 h8 Q) ∧ (x9 = 0 → tg h8 x0 = 6 ∧ 1 ≤ fr ∧ 16 ≤ lo ∧ xRi G YX5_firstOf (fr - 1) (lo - 16) [rv x0, rv x2] h8 (fun x16 h15 => xext h8 h15 → 1 ≤ fr ∧ 14 ≤ lo ∧ xRr G YX5_fault (fr - 1) (lo - 14) [rv x0, .int 7, .int x16] h15 (fun x22 h21 => xext h15 h21 → (∃ r24, x22 = r24 + 1 ∧ Q (.threw r24) h21)) (fun r h2 => Q (.threw r) h2)) (fun r h2 => Q (.threw r) h2)))) (fun r h2 => Q (.threw r) h2)))) ∧ (s0 = 0 → tg h x0 = 6 ∧ 1 ≤ fr ∧ 13 ≤ lo ∧ xRr G YX5_expression (fr - 1) (lo - 13) [rv x0, rv x2] h (fun x30 h29 => xext h h29 → 1 ≤ fr ∧ 16 ≤ lo ∧ xRi G YX5_firstOf (fr - 1) (lo - 16) [rv x0, rv x2] h29 (fun x36 h35 => xext h29 h35 → 1 ≤ fr ∧ 14 ≤ lo ∧ xRr G YX5_fault (fr - 1) (lo - 14) [rv x0, .int 7, .int x36] h35 (fun x42 h41 => xext h35 h41 → (∃ r44, x42 = r44 + 1 ∧ Q (.threw r44) h41)) (fun r h2 => Q (.threw r) h2)) (fun r h2 => Q (.threw r) h2)) (fun r h2 => Q (.threw r) h2)))
set_option maxRecDepth 100000 in
theorem uX5_function_94 {G : xG} {fr lo : Nat} {x0 : Nat} {x1 : Nat} {x2 : Nat} {x4 : Int32} {s0 : Nat} {h : xH} {Q : Outcome → xH → Prop} (hq : bX5_function_94 G fr lo x0 x1 x2 x4 s0 h Q) : xP G YX5_function fr lo 94 [(0, rv x0), (1, rv x1), (2, rv x2), (4, .int x4)] [rv s0] h Q := by
  unfold bX5_function_94 at hq
  refine x_astore (lv' := [(6, rv s0), (0, rv x0), (1, rv x1), (2, rv x2), (4, .int x4)]) dX5_function_94 (by decide) rfl ?_
  refine x_aload 0 dX5_function_96 rfl ?_
  refine x_ifnonnull (tgt := 120) dX5_function_98 (by decide) (fun c1 => ?_) (fun c1 => ?_)
  · replace hq := hq.1 c1
    refine x_aload_n 2 dX5_function_120 rfl ?_
    obtain ⟨g2, hq⟩ := hq
    refine x_getN (v := .int (fI h x1 2051)) gfX5_112 dX5_function_121 g2 rfl ?_
    refine x_bipush (v := 21) dX5_function_124 (by decide) ?_
    refine x_icmp_ne (tgt := 152) dX5_function_126 (by decide) (fun c3 => ?_) (fun c3 => ?_)
    · replace hq := hq.1 c3
      refine xP.pick (lv' := [(0, rv x0), (1, rv x1), (4, .int x4), (6, rv s0)]) [1, 2, 4, 0] rfl ?_
      exact uX5_function_152 hq
    · replace hq := hq.2 c3
      refine x_aload 0 dX5_function_129 rfl ?_
      obtain ⟨g4, hq⟩ := hq
      refine x_getN (v := rv (fR h s0 2050)) gfX5_249 dX5_function_131 g4 rfl ?_
      obtain ⟨g5, hq⟩ := hq
      obtain ⟨g6, g7, hq⟩ := hq
      refine x_callV (Yc := YX6_isText) (as := []) (st := []) q2637 mvX6_isText g5 rfl dX5_function_134 (xle (xal1 (rv_cat _) xal0) (by decide)) (xfr g6) (xlo xsw0 (by decide) g7) (xKi hq (fun x9 h8 hq e10 => ?_) (fun _ _ q _ => q))
      replace hq := hq e10
      refine x_if_ne (tgt := 152) dX5_function_137 (by decide) (fun c11 => ?_) (fun c11 => ?_)
      · replace hq := hq.1 c11
        refine xP.pick (lv' := [(0, rv x0), (1, rv x1), (4, .int x4), (6, rv s0)]) [1, 2, 4, 0] rfl ?_
        exact uX5_function_152 hq
      · replace hq := hq.2 c11
        refine x_aload_n 1 dX5_function_140 rfl ?_
        refine x_bipush (v := 7) dX5_function_141 (by decide) ?_
        refine x_aload_n 1 dX5_function_143 rfl ?_
        refine x_aload_n 3 dX5_function_144 rfl ?_
        obtain ⟨g12, hq⟩ := hq
        obtain ⟨g13, g14, hq⟩ := hq
        refine x_callV (Yc := YX5_firstOf) (as := [rv x2]) (st := [.int 7, rv x0]) q2510 mvX5_firstOf g12 rfl dX5_function_145 (xle (xal1 (rv_cat _) (xal1 (rv_cat _) xal0)) (by decide)) (xfr g13) (xlo (xsw1 rfl (xsw1 (rv_cat _) xsw0)) (by decide) g14) (xKi hq (fun x16 h15 hq e17 => ?_) (fun _ _ q _ => q))
        replace hq := hq e17
        have t18 : tg h15 x0 = 6 := e17.tg g12 (by decide)
        obtain ⟨g19, g20, hq⟩ := hq
        refine x_callV (Yc := YX5_fault) (as := [.int 7, .int x16]) (st := []) q2087 mvX5_fault t18 rfl dX5_function_148 (xle (xal1 (rv_cat _) (xal1 rfl (xal1 rfl xal0))) (by decide)) (xfr g19) (xlo xsw0 (by decide) g20) (xKr hq (fun x22 h21 hq e23 => ?_) (fun _ _ q _ => q))
        replace hq := hq e23
        obtain ⟨r24, g25, hq⟩ := hq
        rw [g25]
        exact x_athrow dX5_function_151 hq
  · replace hq := hq.2 c1
    refine x_aload_n 1 dX5_function_101 rfl ?_
    refine x_aload_n 3 dX5_function_102 rfl ?_
    obtain ⟨g26, hq⟩ := hq
    obtain ⟨g27, g28, hq⟩ := hq
    refine x_callV (Yc := YX5_expression) (as := [rv x2]) (st := []) q2522 mvX5_expression g26 rfl dX5_function_103 (xle (xal1 (rv_cat _) (xal1 (rv_cat _) xal0)) (by decide)) (xfr g27) (xlo xsw0 (by decide) g28) (xKr hq (fun x30 h29 hq e31 => ?_) (fun _ _ q _ => q))
    replace hq := hq e31
    refine x_astore (lv' := [(7, rv x30), (6, rv s0), (0, rv x0), (1, rv x1), (2, rv x2), (4, .int x4)]) dX5_function_106 (by decide) (by first | rfl | (simp [rv_cat, Value.category]; done) | (simp [rv_cat, Value.category]; decide)) ?_
    refine x_aload_n 2 dX5_function_108 rfl ?_
    refine x_bipush (v := 7) dX5_function_109 (by decide) ?_
    refine x_aload_n 2 dX5_function_111 rfl ?_
    refine x_aload_n 4 dX5_function_112 rfl ?_
    have t32 : tg h29 x0 = 6 := e31.tg g26 (by decide)
    obtain ⟨g33, g34, hq⟩ := hq
    refine x_callV (Yc := YX5_firstOf) (as := [rv x2]) (st := [.int 7, rv x0]) q2510 mvX5_firstOf t32 rfl dX5_function_113 (xle (xal1 (rv_cat _) (xal1 (rv_cat _) xal0)) (by decide)) (xfr g33) (xlo (xsw1 rfl (xsw1 (rv_cat _) xsw0)) (by decide) g34) (xKi hq (fun x36 h35 hq e37 => ?_) (fun _ _ q _ => q))
    replace hq := hq e37
    have t38 : tg h35 x0 = 6 := e37.tg t32 (by decide)
    obtain ⟨g39, g40, hq⟩ := hq
    refine x_callV (Yc := YX5_fault) (as := [.int 7, .int x36]) (st := []) q2087 mvX5_fault t38 rfl dX5_function_116 (xle (xal1 (rv_cat _) (xal1 rfl (xal1 rfl xal0))) (by decide)) (xfr g39) (xlo xsw0 (by decide) g40) (xKr hq (fun x42 h41 hq e43 => ?_) (fun _ _ q _ => q))
    replace hq := hq e43
    obtain ⟨r44, g45, hq⟩ := hq
    rw [g45]
    exact x_athrow dX5_function_119 hq
set_option maxRecDepth 100000 in
def bX5_function_70 (G : xG) (fr lo : Nat) (x0 : Nat) (x1 : Nat) (x2 : Nat) (x3 : Int32) (x4 : Int32) (x5 : Int32) (h : xH) (Q : Outcome → xH → Prop) : Prop := ((x5 = 0 → tg h x0 = 6 ∧ 1 ≤ fr ∧ 13 ≤ lo ∧ xRr G YX5_expression (fr - 1) (lo - 13) [rv x0, rv x2] h (fun x6 h5 => xext h h5 → tg h5 x6 = 7 ∧ 1 ≤ fr ∧ 12 ≤ lo ∧ xRi G YX6_isNumber (fr - 1) (lo - 12) [rv x6] h5 (fun x12 h11 => xext h5 h11 → tg h11 x1 = 9 ∧ ((15 ≤ (fI h11 x1 2051) → (((fI h11 x1 2051) = 15 → bX5_function_247 G fr lo x0 x1 x2 x4 x6 h11 Q) ∧ (¬ (fI h11 x1 2051) = 15 → (((fI h11 x1 2051) = 17 → bX5_function_247 G fr lo x0 x1 x2 x4 x6 h11 Q) ∧ (¬ (fI h11 x1 2051) = 17 → ((¬ (fI h11 x1 2051) = 18 → ((¬ x6 = (fR h11 x0 1282) → bX5_function_269 G fr lo x0 x1 x2 x4 x6 0 h11 Q) ∧ (x6 = (fR h11 x0 1282) → bX5_function_269 G fr lo x0 x1 x2 x4 x6 1 h11 Q))) ∧ ((fI h11 x1 2051) = 18 → bX5_function_247 G fr lo x0 x1 x2 x4 x6 h11 Q))))))) ∧ (¬ 15 ≤ (fI h11 x1 2051) → bX5_function_269 G fr lo x0 x1 x2 x4 x6 x12 h11 Q))) (fun r h2 => Q (.threw r) h2)) (fun r h2 => Q (.threw r) h2)) ∧ (¬ x5 = 0 → ((¬ x3 = 0 → tg h x0 = 6 ∧ 1 ≤ fr ∧ 15 ≤ lo ∧ xRr G YX5_file (fr - 1) (lo - 15) [rv x0, rv x2] h (fun x27 h26 => xext h h26 → bX5_function_94 G fr lo x0 x1 x2 x4 x27 h26 Q) (fun r h2 => Q (.threw r) h2)) ∧ (x3 = 0 → tg h x0 = 6 ∧ 1 ≤ fr ∧ 15 ≤ lo ∧ xRr G YX5_standard (fr - 1) (lo - 15) [rv x0, .int 1, .int x4] h (fun x33 h32 => xext h h32 → bX5_function_94 G fr lo x0 x1 x2 x4 x33 h32 Q) (fun r h2 => Q (.threw r) h2)))))
set_option maxRecDepth 100000 in
theorem uX5_function_70 {G : xG} {fr lo : Nat} {x0 : Nat} {x1 : Nat} {x2 : Nat} {x3 : Int32} {x4 : Int32} {x5 : Int32} {h : xH} {Q : Outcome → xH → Prop} (hq : bX5_function_70 G fr lo x0 x1 x2 x3 x4 x5 h Q) : xP G YX5_function fr lo 70 [(0, rv x0), (1, rv x1), (2, rv x2), (3, .int x3), (4, .int x4), (5, .int x5)] [] h Q := by
  unfold bX5_function_70 at hq
  refine x_iload 5 dX5_function_70 rfl ?_
  refine x_if_eq (tgt := 192) dX5_function_72 (by decide) (fun c1 => ?_) (fun c1 => ?_)
  · replace hq := hq.1 c1
    refine x_aload_n 0 dX5_function_192 rfl ?_
    refine x_aload_n 2 dX5_function_193 rfl ?_
    obtain ⟨g2, hq⟩ := hq
    obtain ⟨g3, g4, hq⟩ := hq
    refine x_callV (Yc := YX5_expression) (as := [rv x2]) (st := []) q2522 mvX5_expression g2 rfl dX5_function_194 (xle (xal1 (rv_cat _) (xal1 (rv_cat _) xal0)) (by decide)) (xfr g3) (xlo xsw0 (by decide) g4) (xKr hq (fun x6 h5 hq e7 => ?_) (fun _ _ q _ => q))
    replace hq := hq e7
    refine x_astore (lv' := [(6, rv x6), (0, rv x0), (1, rv x1), (2, rv x2), (3, .int x3), (4, .int x4), (5, .int x5)]) dX5_function_197 (by decide) rfl ?_
    refine x_aload 0 dX5_function_199 rfl ?_
    obtain ⟨g8, hq⟩ := hq
    obtain ⟨g9, g10, hq⟩ := hq
    refine x_callV (Yc := YX6_isNumber) (as := []) (st := []) q2258 mvX6_isNumber g8 rfl dX5_function_201 (xle (xal1 (rv_cat _) xal0) (by decide)) (xfr g9) (xlo xsw0 (by decide) g10) (xKi hq (fun x12 h11 hq e13 => ?_) (fun _ _ q _ => q))
    replace hq := hq e13
    refine x_istore (lv' := [(7, .int x12), (6, rv x6), (0, rv x0), (1, rv x1), (2, rv x2), (3, .int x3), (4, .int x4), (5, .int x5)]) dX5_function_204 (by decide) (by first | rfl | (simp [rv_cat, Value.category]; done) | (simp [rv_cat, Value.category]; decide)) ?_
    refine x_aload_n 3 dX5_function_206 rfl ?_
    obtain ⟨g14, hq⟩ := hq
    refine x_getN (v := .int (fI h11 x1 2051)) gfX5_112 dX5_function_207 g14 rfl ?_
    refine x_bipush (v := 15) dX5_function_210 (by decide) ?_
    refine x_icmp_ge (tgt := 220) dX5_function_212 (by decide) (fun c15 => ?_) (fun c15 => ?_)
    · replace hq := hq.1 c15
      refine x_aload_n 3 dX5_function_220 rfl ?_
      refine x_getN (v := .int (fI h11 x1 2051)) gfX5_112 dX5_function_221 g14 rfl ?_
      refine x_bipush (v := 15) dX5_function_224 (by decide) ?_
      refine x_icmp_eq (tgt := 247) dX5_function_226 (by decide) (fun c16 => ?_) (fun c16 => ?_)
      · replace hq := hq.1 c16
        refine xP.pick (lv' := [(0, rv x0), (1, rv x1), (2, rv x2), (4, .int x4), (6, rv x6)]) [2, 3, 4, 6, 1] rfl ?_
        exact uX5_function_247 hq
      · replace hq := hq.2 c16
        refine x_aload_n 3 dX5_function_229 rfl ?_
        refine x_getN (v := .int (fI h11 x1 2051)) gfX5_112 dX5_function_230 g14 rfl ?_
        refine x_bipush (v := 17) dX5_function_233 (by decide) ?_
        refine x_icmp_eq (tgt := 247) dX5_function_235 (by decide) (fun c17 => ?_) (fun c17 => ?_)
        · replace hq := hq.1 c17
          refine xP.pick (lv' := [(0, rv x0), (1, rv x1), (2, rv x2), (4, .int x4), (6, rv x6)]) [2, 3, 4, 6, 1] rfl ?_
          exact uX5_function_247 hq
        · replace hq := hq.2 c17
          refine x_aload_n 3 dX5_function_238 rfl ?_
          refine x_getN (v := .int (fI h11 x1 2051)) gfX5_112 dX5_function_239 g14 rfl ?_
          refine x_bipush (v := 18) dX5_function_242 (by decide) ?_
          refine x_icmp_ne (tgt := 255) dX5_function_244 (by decide) (fun c18 => ?_) (fun c18 => ?_)
          · replace hq := hq.1 c18
            refine x_aload 1 dX5_function_255 rfl ?_
            refine x_aload_n 2 dX5_function_257 rfl ?_
            have t19 : tg h5 x0 = 6 := e7.tg g2 (by decide)
            have t20 : tg h11 x0 = 6 := e13.tg t19 (by decide)
            refine x_get (v := rv (fR h11 x0 1282)) fdX5_20 dX5_function_258 t20 rfl ?_
            refine x_acmp_ne (tgt := 268) dX5_function_261 (by decide) (fun c21 => ?_) (fun c21 => ?_)
            · replace hq := hq.1 c21
              refine x_iconst (v := 0) dX5_function_268 (by decide) ?_
              refine xP.pick (lv' := [(0, rv x0), (1, rv x1), (2, rv x2), (4, .int x4), (6, rv x6)]) [2, 3, 4, 6, 1] rfl ?_
              exact uX5_function_269 hq
            · replace hq := hq.2 c21
              refine x_iconst (v := 1) dX5_function_264 (by decide) ?_
              refine x_goto (tgt := 269) dX5_function_265 (by decide) ?_
              refine xP.pick (lv' := [(0, rv x0), (1, rv x1), (2, rv x2), (4, .int x4), (6, rv x6)]) [2, 3, 4, 6, 1] rfl ?_
              exact uX5_function_269 hq
          · replace hq := hq.2 c18
            refine xP.pick (lv' := [(0, rv x0), (1, rv x1), (2, rv x2), (4, .int x4), (6, rv x6)]) [2, 3, 4, 6, 1] rfl ?_
            exact uX5_function_247 hq
    · replace hq := hq.2 c15
      refine x_iload 0 dX5_function_215 rfl ?_
      refine x_goto (tgt := 269) dX5_function_217 (by decide) ?_
      refine xP.pick (lv' := [(0, rv x0), (1, rv x1), (2, rv x2), (4, .int x4), (6, rv x6)]) [2, 3, 4, 6, 1] rfl ?_
      exact uX5_function_269 hq
  · replace hq := hq.2 c1
    refine x_iload_n 3 dX5_function_75 rfl ?_
    refine x_if_ne (tgt := 89) dX5_function_76 (by decide) (fun c22 => ?_) (fun c22 => ?_)
    · replace hq := hq.1 c22
      refine x_aload_n 0 dX5_function_89 rfl ?_
      refine x_aload_n 2 dX5_function_90 rfl ?_
      obtain ⟨g23, hq⟩ := hq
      obtain ⟨g24, g25, hq⟩ := hq
      refine x_callV (Yc := YX5_file) (as := [rv x2]) (st := []) q2633 mvX5_file g23 rfl dX5_function_91 (xle (xal1 (rv_cat _) (xal1 (rv_cat _) xal0)) (by decide)) (xfr g24) (xlo xsw0 (by decide) g25) (xKr hq (fun x27 h26 hq e28 => ?_) (fun _ _ q _ => q))
      replace hq := hq e28
      refine xP.pick (lv' := [(0, rv x0), (1, rv x1), (2, rv x2), (4, .int x4)]) [0, 1, 2, 4] rfl ?_
      exact uX5_function_94 hq
    · replace hq := hq.2 c22
      refine x_aload_n 0 dX5_function_79 rfl ?_
      refine x_iconst (v := 1) dX5_function_80 (by decide) ?_
      refine x_iload 4 dX5_function_81 rfl ?_
      obtain ⟨g29, hq⟩ := hq
      obtain ⟨g30, g31, hq⟩ := hq
      refine x_callV (Yc := YX5_standard) (as := [.int 1, .int x4]) (st := []) q2629 mvX5_standard g29 rfl dX5_function_83 (xle (xal1 (rv_cat _) (xal1 rfl (xal1 rfl xal0))) (by decide)) (xfr g30) (xlo xsw0 (by decide) g31) (xKr hq (fun x33 h32 hq e34 => ?_) (fun _ _ q _ => q))
      replace hq := hq e34
      refine x_goto (tgt := 94) dX5_function_86 (by decide) ?_
      refine xP.pick (lv' := [(0, rv x0), (1, rv x1), (2, rv x2), (4, .int x4)]) [0, 1, 2, 4] rfl ?_
      exact uX5_function_94 hq
set_option maxRecDepth 100000 in
def bX5_function_61 (G : xG) (fr lo : Nat) (x0 : Nat) (x4 : Int32) (h : xH) (Q : Outcome → xH → Prop) : Prop := tg h x0 = 6 ∧ 1 ≤ fr ∧ 14 ≤ lo ∧ xRr G YX5_fault (fr - 1) (lo - 14) [rv x0, .int 9, .int x4] h (fun x5 h4 => xext h h4 → (∃ r7, x5 = r7 + 1 ∧ Q (.threw r7) h4)) (fun r h2 => Q (.threw r) h2)
set_option maxRecDepth 100000 in
theorem uX5_function_61 {G : xG} {fr lo : Nat} {x0 : Nat} {x4 : Int32} {h : xH} {Q : Outcome → xH → Prop} (hq : bX5_function_61 G fr lo x0 x4 h Q) : xP G YX5_function fr lo 61 [(0, rv x0), (4, .int x4)] [] h Q := by
  unfold bX5_function_61 at hq
  refine x_aload_n 0 dX5_function_61 rfl ?_
  refine x_bipush (v := 9) dX5_function_62 (by decide) ?_
  refine x_iload 1 dX5_function_64 rfl ?_
  obtain ⟨g1, hq⟩ := hq
  obtain ⟨g2, g3, hq⟩ := hq
  refine x_callV (Yc := YX5_fault) (as := [.int 9, .int x4]) (st := []) q2087 mvX5_fault g1 rfl dX5_function_66 (xle (xal1 (rv_cat _) (xal1 rfl (xal1 rfl xal0))) (by decide)) (xfr g2) (xlo xsw0 (by decide) g3) (xKr hq (fun x5 h4 hq e6 => ?_) (fun _ _ q _ => q))
  replace hq := hq e6
  obtain ⟨r7, g8, hq⟩ := hq
  rw [g8]
  exact x_athrow dX5_function_69 hq
set_option maxRecDepth 100000 in
def bX5_function_45 (G : xG) (fr lo : Nat) (x0 : Nat) (x1 : Nat) (x2 : Nat) (x3 : Int32) (x4 : Int32) (s0 : Int32) (h : xH) (Q : Outcome → xH → Prop) : Prop := ((1 < x3 → bX5_function_61 G fr lo x0 x4 h Q) ∧ (¬ 1 < x3 → ((¬ x3 = 0 → bX5_function_70 G fr lo x0 x1 x2 x3 x4 s0 h Q) ∧ (x3 = 0 → ((¬ s0 = 0 → bX5_function_70 G fr lo x0 x1 x2 x3 x4 s0 h Q) ∧ (s0 = 0 → bX5_function_61 G fr lo x0 x4 h Q))))))
set_option maxRecDepth 100000 in
theorem uX5_function_45 {G : xG} {fr lo : Nat} {x0 : Nat} {x1 : Nat} {x2 : Nat} {x3 : Int32} {x4 : Int32} {s0 : Int32} {h : xH} {Q : Outcome → xH → Prop} (hq : bX5_function_45 G fr lo x0 x1 x2 x3 x4 s0 h Q) : xP G YX5_function fr lo 45 [(0, rv x0), (1, rv x1), (2, rv x2), (3, .int x3), (4, .int x4)] [.int s0] h Q := by
  unfold bX5_function_45 at hq
  refine x_istore (lv' := [(5, .int s0), (0, rv x0), (1, rv x1), (2, rv x2), (3, .int x3), (4, .int x4)]) dX5_function_45 (by decide) rfl ?_
  refine x_iload_n 4 dX5_function_47 rfl ?_
  refine x_iconst (v := 1) dX5_function_48 (by decide) ?_
  refine x_icmp_gt (tgt := 61) dX5_function_49 (by decide) (fun c1 => ?_) (fun c1 => ?_)
  · replace hq := hq.1 c1
    refine xP.pick (lv' := [(0, rv x0), (4, .int x4)]) [1, 5] rfl ?_
    exact uX5_function_61 hq
  · replace hq := hq.2 c1
    refine x_iload_n 4 dX5_function_52 rfl ?_
    refine x_if_ne (tgt := 70) dX5_function_53 (by decide) (fun c2 => ?_) (fun c2 => ?_)
    · replace hq := hq.1 c2
      refine xP.pick (lv' := [(0, rv x0), (1, rv x1), (2, rv x2), (3, .int x3), (4, .int x4), (5, .int s0)]) [1, 2, 3, 4, 5, 0] rfl ?_
      exact uX5_function_70 hq
    · replace hq := hq.2 c2
      refine x_iload 0 dX5_function_56 rfl ?_
      refine x_if_ne (tgt := 70) dX5_function_58 (by decide) (fun c3 => ?_) (fun c3 => ?_)
      · replace hq := hq.1 c3
        refine xP.pick (lv' := [(0, rv x0), (1, rv x1), (2, rv x2), (3, .int x3), (4, .int x4), (5, .int s0)]) [1, 2, 3, 4, 5, 0] rfl ?_
        exact uX5_function_70 hq
      · replace hq := hq.2 c3
        refine xP.pick (lv' := [(0, rv x0), (4, .int x4)]) [1, 5] rfl ?_
        exact uX5_function_61 hq
set_option maxRecDepth 100000 in
def bX5_function (G : xG) (fr lo : Nat) (x0 : Nat) (x1 : Nat) (x2 : Nat) (x3 : Int32) (x4 : Int32) (h : xH) (Q : Outcome → xH → Prop) : Prop := tg h x1 = 9 ∧ ((¬ (fI h x1 2048) = 3 → (((fI h x1 2051) ≤ 19 → bX5_function_45 G fr lo x0 x1 x2 x3 x4 0 h Q) ∧ (¬ (fI h x1 2051) ≤ 19 → bX5_function_45 G fr lo x0 x1 x2 x3 x4 1 h Q))) ∧ ((fI h x1 2048) = 3 → tg h x0 = 6 ∧ 1 ≤ fr ∧ 19 ≤ lo ∧ xRv G YX5_call (fr - 1) (lo - 19) [rv x0, rv (fR h x1 2059), rv x2, .int x3, .int x4] h (fun h7 => xext h h7 → tg h7 (fR h7 x1 2059) = 17 ∧ 1 ≤ fr ∧ 12 ≤ lo ∧ xRr G YX5_own (fr - 1) (lo - 12) [rv (fR h7 (fR h7 x1 2059) 4100)] h7 (fun x15 h14 => xext h7 h14 → Q (.returned (some (rv x15))) h14) (fun r h2 => Q (.threw r) h2)) (fun r h2 => Q (.threw r) h2)))
set_option maxRecDepth 100000 in
theorem uX5_function {G : xG} {fr lo : Nat} {x0 : Nat} {x1 : Nat} {x2 : Nat} {x3 : Int32} {x4 : Int32} {h : xH} {Q : Outcome → xH → Prop} (hq : bX5_function G fr lo x0 x1 x2 x3 x4 h Q) : xP G YX5_function fr lo 0 [(0, rv x0), (1, rv x1), (2, rv x2), (3, .int x3), (4, .int x4)] [] h Q := by
  unfold bX5_function at hq
  refine x_aload_n 1 dX5_function_0 rfl ?_
  obtain ⟨g1, hq⟩ := hq
  refine x_getN (v := .int (fI h x1 2048)) gfX5_199 dX5_function_1 g1 rfl ?_
  refine x_iconst (v := 3) dX5_function_4 (by decide) ?_
  refine x_icmp_ne (tgt := 31) dX5_function_5 (by decide) (fun c2 => ?_) (fun c2 => ?_)
  · replace hq := hq.1 c2
    refine x_aload_n 1 dX5_function_31 rfl ?_
    refine x_getN (v := .int (fI h x1 2051)) gfX5_112 dX5_function_32 g1 rfl ?_
    refine x_bipush (v := 19) dX5_function_35 (by decide) ?_
    refine x_icmp_le (tgt := 44) dX5_function_37 (by decide) (fun c3 => ?_) (fun c3 => ?_)
    · replace hq := hq.1 c3
      refine x_iconst (v := 0) dX5_function_44 (by decide) ?_
      exact uX5_function_45 hq
    · replace hq := hq.2 c3
      refine x_iconst (v := 1) dX5_function_40 (by decide) ?_
      refine x_goto (tgt := 45) dX5_function_41 (by decide) ?_
      exact uX5_function_45 hq
  · replace hq := hq.2 c2
    refine x_aload_n 0 dX5_function_8 rfl ?_
    refine x_aload_n 1 dX5_function_9 rfl ?_
    refine x_getN (v := rv (fR h x1 2059)) gfX5_492 dX5_function_10 g1 rfl ?_
    refine x_aload_n 2 dX5_function_13 rfl ?_
    refine x_iload_n 3 dX5_function_14 rfl ?_
    refine x_iload 4 dX5_function_15 rfl ?_
    obtain ⟨g4, hq⟩ := hq
    obtain ⟨g5, g6, hq⟩ := hq
    refine x_callV (Yc := YX5_call) (as := [rv (fR h x1 2059), rv x2, .int x3, .int x4]) (st := []) q2557 mvX5_call g4 rfl dX5_function_17 (xle (xal1 (rv_cat _) (xal1 (rv_cat _) (xal1 (rv_cat _) (xal1 rfl (xal1 rfl xal0))))) (by decide)) (xfr g5) (xlo xsw0 (by decide) g6) (xKv hq (fun h7 hq e9 => ?_) (fun _ _ q _ => q))
    replace hq := hq e9
    refine x_aload_n 1 dX5_function_20 rfl ?_
    have t10 : tg h7 x1 = 9 := e9.tg g1 (by decide)
    refine x_getN (v := rv (fR h7 x1 2059)) gfX5_492 dX5_function_21 t10 rfl ?_
    obtain ⟨g11, hq⟩ := hq
    refine x_getN (v := rv (fR h7 (fR h7 x1 2059) 4100)) gfX5_538 dX5_function_24 g11 rfl ?_
    obtain ⟨g12, g13, hq⟩ := hq
    refine x_callS (Yc := YX5_own) (as := [rv (fR h7 (fR h7 x1 2059) 4100)]) (st := []) q2626 msX5_own rfl dX5_function_27 (xle (xal1 (rv_cat _) xal0) (by decide)) (xfr g12) (xlo xsw0 (by decide) g13) (xKr hq (fun x15 h14 hq e16 => ?_) (fun _ _ q _ => q))
    replace hq := hq e16
    exact x_aret rfl xty_O dX5_function_30 hq
theorem rX5_function {G : xG} {fr lo : Nat} {x0 : Nat} {x1 : Nat} {x2 : Nat} {x3 : Int32} {x4 : Int32} {h : xH} {Q : Outcome → xH → Prop} (hq : bX5_function G fr lo x0 x1 x2 x3 x4 h Q) : xR G YX5_function fr lo [rv x0, rv x1, rv x2, .int x3, .int x4] h Q := by
  show xP _ _ _ _ _ (lv_args 0 _) _ _ _
  rw [show lv_args 0 [rv x0, rv x1, rv x2, .int x3, .int x4] = [(0, rv x0), (1, rv x1), (2, rv x2), (3, .int x3), (4, .int x4)] from (xla1 (rv_cat _) (xla1 (rv_cat _) (xla1 (rv_cat _) (xla1 rfl (xla1 rfl xla0)))))]
  exact uX5_function hq
set_option maxRecDepth 100000 in
theorem dX5_call_0 : decode cX5_call 0 = .ok (.iload_n 3, 1) := by decide +kernel
set_option maxRecDepth 100000 in
theorem dX5_call_1 : decode cX5_call 1 = .ok (.aload_n 1, 1) := by decide +kernel
set_option maxRecDepth 100000 in
theorem dX5_call_2 : decode cX5_call 2 = .ok (.getfield 560, 3) := by decide +kernel
set_option maxRecDepth 100000 in
theorem dX5_call_5 : decode cX5_call 5 = .ok (.invokevirtual 490, 3) := by decide +kernel
set_option maxRecDepth 100000 in
theorem dX5_call_8 : decode cX5_call 8 = .ok (.if_icmp .eq 12, 3) := by decide +kernel
set_option maxRecDepth 100000 in
theorem dX5_call_11 : decode cX5_call 11 = .ok (.aload_n 0, 1) := by decide +kernel
set_option maxRecDepth 100000 in
theorem dX5_call_12 : decode cX5_call 12 = .ok (.bipush 9, 2) := by decide +kernel
set_option maxRecDepth 100000 in
theorem dX5_call_14 : decode cX5_call 14 = .ok (.iload 4, 2) := by decide +kernel
set_option maxRecDepth 100000 in
theorem dX5_call_16 : decode cX5_call 16 = .ok (.invokevirtual 163, 3) := by decide +kernel
set_option maxRecDepth 100000 in
theorem dX5_call_19 : decode cX5_call 19 = .ok (.athrow, 1) := by decide +kernel
set_option maxRecDepth 100000 in
theorem dX5_call_20 : decode cX5_call 20 = .ok (.aload_n 2, 1) := by decide +kernel
set_option maxRecDepth 100000 in
theorem dX5_call_21 : decode cX5_call 21 = .ok (.astore 5, 2) := by decide +kernel
set_option maxRecDepth 100000 in
theorem dX5_call_23 : decode cX5_call 23 = .ok (.iconst 0, 1) := by decide +kernel
set_option maxRecDepth 100000 in
theorem dX5_call_24 : decode cX5_call 24 = .ok (.istore 6, 2) := by decide +kernel
set_option maxRecDepth 100000 in
theorem dX5_call_26 : decode cX5_call 26 = .ok (.iload 6, 2) := by decide +kernel
set_option maxRecDepth 100000 in
theorem dX5_call_28 : decode cX5_call 28 = .ok (.iload_n 3, 1) := by decide +kernel
set_option maxRecDepth 100000 in
theorem dX5_call_29 : decode cX5_call 29 = .ok (.if_icmp .ge 84, 3) := by decide +kernel
set_option maxRecDepth 100000 in
theorem dX5_call_32 : decode cX5_call 32 = .ok (.aload 5, 2) := by decide +kernel
set_option maxRecDepth 100000 in
theorem dX5_call_34 : decode cX5_call 34 = .ok (.getfield 264, 3) := by decide +kernel
set_option maxRecDepth 100000 in
theorem dX5_call_37 : decode cX5_call 37 = .ok (.ifCond .ne 11, 3) := by decide +kernel
set_option maxRecDepth 100000 in
theorem dX5_call_40 : decode cX5_call 40 = .ok (.aload 5, 2) := by decide +kernel
set_option maxRecDepth 100000 in
theorem dX5_call_42 : decode cX5_call 42 = .ok (.getfield 251, 3) := by decide +kernel
set_option maxRecDepth 100000 in
theorem dX5_call_45 : decode cX5_call 45 = .ok (.goto 5, 3) := by decide +kernel
set_option maxRecDepth 100000 in
theorem dX5_call_48 : decode cX5_call 48 = .ok (.aload 5, 2) := by decide +kernel
set_option maxRecDepth 100000 in
theorem dX5_call_50 : decode cX5_call 50 = .ok (.astore 7, 2) := by decide +kernel
set_option maxRecDepth 100000 in
theorem dX5_call_52 : decode cX5_call 52 = .ok (.aload_n 0, 1) := by decide +kernel
set_option maxRecDepth 100000 in
theorem dX5_call_53 : decode cX5_call 53 = .ok (.aload_n 1, 1) := by decide +kernel
set_option maxRecDepth 100000 in
theorem dX5_call_54 : decode cX5_call 54 = .ok (.getfield 560, 3) := by decide +kernel
set_option maxRecDepth 100000 in
theorem dX5_call_57 : decode cX5_call 57 = .ok (.iload 6, 2) := by decide +kernel
set_option maxRecDepth 100000 in
theorem dX5_call_59 : decode cX5_call 59 = .ok (.invokevirtual 331, 3) := by decide +kernel
set_option maxRecDepth 100000 in
theorem dX5_call_62 : decode cX5_call 62 = .ok (.checkcast 548, 3) := by decide +kernel
set_option maxRecDepth 100000 in
theorem dX5_call_65 : decode cX5_call 65 = .ok (.aload 7, 2) := by decide +kernel
set_option maxRecDepth 100000 in
theorem dX5_call_67 : decode cX5_call 67 = .ok (.invokevirtual 740, 3) := by decide +kernel
set_option maxRecDepth 100000 in
theorem dX5_call_70 : decode cX5_call 70 = .ok (.aload 7, 2) := by decide +kernel
set_option maxRecDepth 100000 in
theorem dX5_call_72 : decode cX5_call 72 = .ok (.aload 5, 2) := by decide +kernel
set_option maxRecDepth 100000 in
theorem dX5_call_74 : decode cX5_call 74 = .ok (.if_acmp .eq 26, 3) := by decide +kernel
set_option maxRecDepth 100000 in
theorem dX5_call_77 : decode cX5_call 77 = .ok (.aload 7, 2) := by decide +kernel
set_option maxRecDepth 100000 in
theorem dX5_call_79 : decode cX5_call 79 = .ok (.getfield 307, 3) := by decide +kernel
set_option maxRecDepth 100000 in
theorem dX5_call_82 : decode cX5_call 82 = .ok (.ifnull 18, 3) := by decide +kernel
set_option maxRecDepth 100000 in
theorem dX5_call_85 : decode cX5_call 85 = .ok (.aload_n 0, 1) := by decide +kernel
set_option maxRecDepth 100000 in
theorem dX5_call_86 : decode cX5_call 86 = .ok (.bipush 7, 2) := by decide +kernel
set_option maxRecDepth 100000 in
theorem dX5_call_88 : decode cX5_call 88 = .ok (.aload 7, 2) := by decide +kernel
set_option maxRecDepth 100000 in
theorem dX5_call_90 : decode cX5_call 90 = .ok (.getfield 307, 3) := by decide +kernel
set_option maxRecDepth 100000 in
theorem dX5_call_93 : decode cX5_call 93 = .ok (.invokevirtual 192, 3) := by decide +kernel
set_option maxRecDepth 100000 in
theorem dX5_call_96 : decode cX5_call 96 = .ok (.invokevirtual 163, 3) := by decide +kernel
set_option maxRecDepth 100000 in
theorem dX5_call_99 : decode cX5_call 99 = .ok (.athrow, 1) := by decide +kernel
set_option maxRecDepth 100000 in
theorem dX5_call_100 : decode cX5_call 100 = .ok (.aload 5, 2) := by decide +kernel
set_option maxRecDepth 100000 in
theorem dX5_call_102 : decode cX5_call 102 = .ok (.getfield 307, 3) := by decide +kernel
set_option maxRecDepth 100000 in
theorem dX5_call_105 : decode cX5_call 105 = .ok (.astore 5, 2) := by decide +kernel
set_option maxRecDepth 100000 in
theorem dX5_call_107 : decode cX5_call 107 = .ok (.iinc 6 1, 3) := by decide +kernel
set_option maxRecDepth 100000 in
theorem dX5_call_110 : decode cX5_call 110 = .ok (.goto (-84), 3) := by decide +kernel
set_option maxRecDepth 100000 in
theorem dX5_call_113 : decode cX5_call 113 = .ok (.aload_n 1, 1) := by decide +kernel
set_option maxRecDepth 100000 in
theorem dX5_call_114 : decode cX5_call 114 = .ok (.getfield 522, 3) := by decide +kernel
set_option maxRecDepth 100000 in
theorem dX5_call_117 : decode cX5_call 117 = .ok (.ifCond .eq 35, 3) := by decide +kernel
set_option maxRecDepth 100000 in
theorem dX5_call_120 : decode cX5_call 120 = .ok (.aload_n 0, 1) := by decide +kernel
set_option maxRecDepth 100000 in
theorem dX5_call_121 : decode cX5_call 121 = .ok (.getfield 62, 3) := by decide +kernel
set_option maxRecDepth 100000 in
theorem dX5_call_124 : decode cX5_call 124 = .ok (.bipush 59, 2) := by decide +kernel
set_option maxRecDepth 100000 in
theorem dX5_call_126 : decode cX5_call 126 = .ok (.aload_n 0, 1) := by decide +kernel
set_option maxRecDepth 100000 in
theorem dX5_call_127 : decode cX5_call 127 = .ok (.getfield 416, 3) := by decide +kernel
set_option maxRecDepth 100000 in
theorem dX5_call_130 : decode cX5_call 130 = .ok (.getfield 447, 3) := by decide +kernel
set_option maxRecDepth 100000 in
theorem dX5_call_133 : decode cX5_call 133 = .ok (.aload_n 1, 1) := by decide +kernel
set_option maxRecDepth 100000 in
theorem dX5_call_134 : decode cX5_call 134 = .ok (.getfield 568, 3) := by decide +kernel
set_option maxRecDepth 100000 in
theorem dX5_call_137 : decode cX5_call 137 = .ok (.isub, 1) := by decide +kernel
set_option maxRecDepth 100000 in
theorem dX5_call_138 : decode cX5_call 138 = .ok (.aload_n 1, 1) := by decide +kernel
set_option maxRecDepth 100000 in
theorem dX5_call_139 : decode cX5_call 139 = .ok (.getfield 567, 3) := by decide +kernel
set_option maxRecDepth 100000 in
theorem dX5_call_142 : decode cX5_call 142 = .ok (.iconst 0, 1) := by decide +kernel
set_option maxRecDepth 100000 in
theorem dX5_call_143 : decode cX5_call 143 = .ok (.iload 4, 2) := by decide +kernel
set_option maxRecDepth 100000 in
theorem dX5_call_145 : decode cX5_call 145 = .ok (.invokevirtual 506, 3) := by decide +kernel
set_option maxRecDepth 100000 in
theorem dX5_call_148 : decode cX5_call 148 = .ok (.pop, 1) := by decide +kernel
set_option maxRecDepth 100000 in
theorem dX5_call_149 : decode cX5_call 149 = .ok (.goto 34, 3) := by decide +kernel
set_option maxRecDepth 100000 in
theorem dX5_call_152 : decode cX5_call 152 = .ok (.aload_n 0, 1) := by decide +kernel
set_option maxRecDepth 100000 in
theorem dX5_call_153 : decode cX5_call 153 = .ok (.getfield 62, 3) := by decide +kernel
set_option maxRecDepth 100000 in
theorem dX5_call_156 : decode cX5_call 156 = .ok (.bipush 58, 2) := by decide +kernel
set_option maxRecDepth 100000 in
theorem dX5_call_158 : decode cX5_call 158 = .ok (.aload_n 1, 1) := by decide +kernel
set_option maxRecDepth 100000 in
theorem dX5_call_159 : decode cX5_call 159 = .ok (.getfield 531, 3) := by decide +kernel
set_option maxRecDepth 100000 in
theorem dX5_call_162 : decode cX5_call 162 = .ok (.aload_n 0, 1) := by decide +kernel
set_option maxRecDepth 100000 in
theorem dX5_call_163 : decode cX5_call 163 = .ok (.getfield 416, 3) := by decide +kernel
set_option maxRecDepth 100000 in
theorem dX5_call_166 : decode cX5_call 166 = .ok (.getfield 447, 3) := by decide +kernel
set_option maxRecDepth 100000 in
theorem dX5_call_169 : decode cX5_call 169 = .ok (.aload_n 1, 1) := by decide +kernel
set_option maxRecDepth 100000 in
theorem dX5_call_170 : decode cX5_call 170 = .ok (.getfield 447, 3) := by decide +kernel
set_option maxRecDepth 100000 in
theorem dX5_call_173 : decode cX5_call 173 = .ok (.isub, 1) := by decide +kernel
set_option maxRecDepth 100000 in
theorem dX5_call_174 : decode cX5_call 174 = .ok (.iconst 1, 1) := by decide +kernel
set_option maxRecDepth 100000 in
theorem dX5_call_175 : decode cX5_call 175 = .ok (.iadd, 1) := by decide +kernel
set_option maxRecDepth 100000 in
theorem dX5_call_176 : decode cX5_call 176 = .ok (.iconst 0, 1) := by decide +kernel
set_option maxRecDepth 100000 in
theorem dX5_call_177 : decode cX5_call 177 = .ok (.iload 4, 2) := by decide +kernel
set_option maxRecDepth 100000 in
theorem dX5_call_179 : decode cX5_call 179 = .ok (.invokevirtual 506, 3) := by decide +kernel
set_option maxRecDepth 100000 in
theorem dX5_call_182 : decode cX5_call 182 = .ok (.pop, 1) := by decide +kernel
set_option maxRecDepth 100000 in
theorem dX5_call_183 : decode cX5_call 183 = .ok (.return_, 1) := by decide +kernel
def lX5_call_26 (G : xG) (fr lo : Nat) (x0 : Nat) (x1 : Nat) (x3 : Int32) (x4 : Int32) (x5 : Nat) (x6 : Int32) (h : xH) (Q : Outcome → xH → Prop) : Prop := xP G YX5_call fr lo 26 [(0, rv x0), (1, rv x1), (3, .int x3), (4, .int x4), (5, rv x5), (6, .int x6)] [] h Q
set_option maxRecDepth 100000 in
def bX5_call_183 (G : xG) (fr lo : Nat) (h : xH) (Q : Outcome → xH → Prop) : Prop := Q (.returned none) h
set_option maxRecDepth 100000 in
theorem uX5_call_183 {G : xG} {fr lo : Nat} {h : xH} {Q : Outcome → xH → Prop} (hq : bX5_call_183 G fr lo h Q) : xP G YX5_call fr lo 183 [] [] h Q := by
  unfold bX5_call_183 at hq
  exact x_vret rfl dX5_call_183 hq
set_option maxRecDepth 100000 in
def bX5_call_100 (G : xG) (fr lo : Nat) (x0 : Nat) (x1 : Nat) (x3 : Int32) (x4 : Int32) (x5 : Nat) (x6 : Int32) (h : xH) (Q : Outcome → xH → Prop) : Prop := tg h x5 = 16 ∧ lX5_call_26 G fr lo x0 x1 x3 x4 (fR h x5 3844) (x6 + 1) h Q
set_option maxRecDepth 100000 in
theorem uX5_call_100 {G : xG} {fr lo : Nat} {x0 : Nat} {x1 : Nat} {x3 : Int32} {x4 : Int32} {x5 : Nat} {x6 : Int32} {h : xH} {Q : Outcome → xH → Prop} (hq : bX5_call_100 G fr lo x0 x1 x3 x4 x5 x6 h Q) : xP G YX5_call fr lo 100 [(0, rv x0), (1, rv x1), (3, .int x3), (4, .int x4), (5, rv x5), (6, .int x6)] [] h Q := by
  unfold bX5_call_100 at hq
  refine x_aload 4 dX5_call_100 rfl ?_
  obtain ⟨g1, hq⟩ := hq
  refine x_getN (v := rv (fR h x5 3844)) gfX5_307 dX5_call_102 g1 rfl ?_
  refine x_astore (lv' := [(5, rv (fR h x5 3844)), (0, rv x0), (1, rv x1), (3, .int x3), (4, .int x4), (6, .int x6)]) dX5_call_105 (by decide) rfl ?_
  refine x_iinc (lv' := [(6, .int (x6 + 1)), (5, rv (fR h x5 3844)), (0, rv x0), (1, rv x1), (3, .int x3), (4, .int x4)]) 5 dX5_call_107 rfl (by decide) (by first | rfl | (simp [rv_cat, Value.category]; done) | (simp [rv_cat, Value.category]; decide)) ?_
  refine x_goto (tgt := 26) dX5_call_110 (by decide) ?_
  refine xP.pick (lv' := [(0, rv x0), (1, rv x1), (3, .int x3), (4, .int x4), (5, rv (fR h x5 3844)), (6, .int (x6 + 1))]) [2, 3, 4, 5, 1, 0] rfl ?_
  exact hq
set_option maxRecDepth 100000 in
def bX5_call_50 (G : xG) (fr lo : Nat) (x0 : Nat) (x1 : Nat) (x3 : Int32) (x4 : Int32) (x5 : Nat) (x6 : Int32) (s0 : Nat) (h : xH) (Q : Outcome → xH → Prop) : Prop := tg h x1 = 17 ∧ tg h (fR h x1 4099) = 29 ∧ 1 ≤ fr ∧ 14 ≤ lo ∧ xRr G YJ2_get (fr - 1) (lo - 14) [rv (fR h x1 4099), .int x6] h (fun x6 h5 => xext h h5 → tg h5 x6 = 22 ∧ tg h5 x0 = 6 ∧ 1 ≤ fr ∧ 15 ≤ lo ∧ xRv G YX5_argument (fr - 1) (lo - 15) [rv x0, rv x6, rv s0] h5 (fun h12 => xext h5 h12 → ((s0 = x5 → bX5_call_100 G fr lo x0 x1 x3 x4 x5 x6 h12 Q) ∧ (¬ s0 = x5 → tg h12 s0 = 16 ∧ (((fR h12 s0 3844) = 0 → bX5_call_100 G fr lo x0 x1 x3 x4 x5 x6 h12 Q) ∧ (¬ (fR h12 s0 3844) = 0 → tg h12 (fR h12 s0 3844) = 16 ∧ 1 ≤ fr ∧ 14 ≤ lo ∧ xRi G YX15_place (fr - 1) (lo - 14) [rv (fR h12 s0 3844)] h12 (fun x22 h21 => xext h12 h21 → 1 ≤ fr ∧ 14 ≤ lo ∧ xRr G YX5_fault (fr - 1) (lo - 14) [rv x0, .int 7, .int x22] h21 (fun x29 h28 => xext h21 h28 → (∃ r31, x29 = r31 + 1 ∧ Q (.threw r31) h28)) (fun r h2 => Q (.threw r) h2)) (fun r h2 => Q (.threw r) h2)))))) (fun r h2 => Q (.threw r) h2)) (fun r h2 => Q (.threw r) h2)
set_option maxRecDepth 100000 in
theorem uX5_call_50 {G : xG} {fr lo : Nat} {x0 : Nat} {x1 : Nat} {x3 : Int32} {x4 : Int32} {x5 : Nat} {x6 : Int32} {s0 : Nat} {h : xH} {Q : Outcome → xH → Prop} (hq : bX5_call_50 G fr lo x0 x1 x3 x4 x5 x6 s0 h Q) : xP G YX5_call fr lo 50 [(0, rv x0), (1, rv x1), (3, .int x3), (4, .int x4), (5, rv x5), (6, .int x6)] [rv s0] h Q := by
  unfold bX5_call_50 at hq
  refine x_astore (lv' := [(7, rv s0), (0, rv x0), (1, rv x1), (3, .int x3), (4, .int x4), (5, rv x5), (6, .int x6)]) dX5_call_50 (by decide) rfl ?_
  refine x_aload_n 1 dX5_call_52 rfl ?_
  refine x_aload_n 2 dX5_call_53 rfl ?_
  obtain ⟨g1, hq⟩ := hq
  refine x_getN (v := rv (fR h x1 4099)) gfX5_560 dX5_call_54 g1 rfl ?_
  refine x_iload 6 dX5_call_57 rfl ?_
  obtain ⟨g2, hq⟩ := hq
  obtain ⟨g3, g4, hq⟩ := hq
  refine x_callV (Yc := YJ2_get) (as := [.int x6]) (st := [rv x0]) q2304 mvJ2_get g2 rfl dX5_call_59 (xle (xal1 (rv_cat _) (xal1 rfl xal0)) (by decide)) (xfr g3) (xlo (xsw1 (rv_cat _) xsw0) (by decide) g4) (xKr hq (fun x6 h5 hq e7 => ?_) (fun _ _ q _ => q))
  replace hq := hq e7
  obtain ⟨g8, hq⟩ := hq
  refine x_cast (ci := 21) (by decide) rfl q2455 g8 dX5_call_62 ?_
  refine x_aload 0 dX5_call_65 rfl ?_
  obtain ⟨g9, hq⟩ := hq
  obtain ⟨g10, g11, hq⟩ := hq
  refine x_callV (Yc := YX5_argument) (as := [rv x6, rv s0]) (st := []) q2561 mvX5_argument g9 rfl dX5_call_67 (xle (xal1 (rv_cat _) (xal1 (rv_cat _) (xal1 (rv_cat _) xal0))) (by decide)) (xfr g10) (xlo xsw0 (by decide) g11) (xKv hq (fun h12 hq e14 => ?_) (fun _ _ q _ => q))
  replace hq := hq e14
  refine x_aload 0 dX5_call_70 rfl ?_
  refine x_aload 5 dX5_call_72 rfl ?_
  refine x_acmp_eq (tgt := 100) dX5_call_74 (by decide) (fun c15 => ?_) (fun c15 => ?_)
  · replace hq := hq.1 c15
    refine xP.pick (lv' := [(0, rv x0), (1, rv x1), (3, .int x3), (4, .int x4), (5, rv x5), (6, .int x6)]) [1, 2, 3, 4, 5, 6] rfl ?_
    exact uX5_call_100 hq
  · replace hq := hq.2 c15
    refine x_aload 0 dX5_call_77 rfl ?_
    obtain ⟨g16, hq⟩ := hq
    refine x_getN (v := rv (fR h12 s0 3844)) gfX5_307 dX5_call_79 g16 rfl ?_
    refine x_ifnull (tgt := 100) dX5_call_82 (by decide) (fun c17 => ?_) (fun c17 => ?_)
    · replace hq := hq.1 c17
      refine xP.pick (lv' := [(0, rv x0), (1, rv x1), (3, .int x3), (4, .int x4), (5, rv x5), (6, .int x6)]) [1, 2, 3, 4, 5, 6] rfl ?_
      exact uX5_call_100 hq
    · replace hq := hq.2 c17
      refine x_aload_n 1 dX5_call_85 rfl ?_
      refine x_bipush (v := 7) dX5_call_86 (by decide) ?_
      refine x_aload 0 dX5_call_88 rfl ?_
      refine x_getN (v := rv (fR h12 s0 3844)) gfX5_307 dX5_call_90 g16 rfl ?_
      obtain ⟨g18, hq⟩ := hq
      obtain ⟨g19, g20, hq⟩ := hq
      refine x_callV (Yc := YX15_place) (as := []) (st := [.int 7, rv x0]) q2013 mvX15_place g18 rfl dX5_call_93 (xle (xal1 (rv_cat _) xal0) (by decide)) (xfr g19) (xlo (xsw1 rfl (xsw1 (rv_cat _) xsw0)) (by decide) g20) (xKi hq (fun x22 h21 hq e23 => ?_) (fun _ _ q _ => q))
      replace hq := hq e23
      have t24 : tg h12 x0 = 6 := e14.tg g9 (by decide)
      have t25 : tg h21 x0 = 6 := e23.tg t24 (by decide)
      obtain ⟨g26, g27, hq⟩ := hq
      refine x_callV (Yc := YX5_fault) (as := [.int 7, .int x22]) (st := []) q2087 mvX5_fault t25 rfl dX5_call_96 (xle (xal1 (rv_cat _) (xal1 rfl (xal1 rfl xal0))) (by decide)) (xfr g26) (xlo xsw0 (by decide) g27) (xKr hq (fun x29 h28 hq e30 => ?_) (fun _ _ q _ => q))
      replace hq := hq e30
      obtain ⟨r31, g32, hq⟩ := hq
      rw [g32]
      exact x_athrow dX5_call_99 hq
set_option maxRecDepth 100000 in
def bX5_call_26 (G : xG) (fr lo : Nat) (x0 : Nat) (x1 : Nat) (x3 : Int32) (x4 : Int32) (x5 : Nat) (x6 : Int32) (h : xH) (Q : Outcome → xH → Prop) : Prop := ((x3 ≤ x6 → tg h x1 = 17 ∧ (((fI h x1 4108) = 0 → tg h x0 = 6 ∧ tg h (fR h x0 1295) = 17 ∧ tg h (fR h x0 1281) = 3 ∧ 1 ≤ fr ∧ 17 ≤ lo ∧ xRi G YX2_put (fr - 1) (lo - 17) [rv (fR h x0 1281), .int 58, .int (fI h x1 4105), .int (((fI h (fR h x0 1295) 4102) - (fI h x1 4102)) + 1), .int 0, .int x4] h (fun x10 h9 => xext h h9 → bX5_call_183 G fr lo h9 Q) (fun r h2 => Q (.threw r) h2)) ∧ (¬ (fI h x1 4108) = 0 → tg h x0 = 6 ∧ tg h (fR h x0 1295) = 17 ∧ tg h (fR h x0 1281) = 3 ∧ 1 ≤ fr ∧ 17 ≤ lo ∧ xRi G YX2_put (fr - 1) (lo - 17) [rv (fR h x0 1281), .int 59, .int ((fI h (fR h x0 1295) 4102) - (fI h x1 4107)), .int (fI h x1 4106), .int 0, .int x4] h (fun x18 h17 => xext h h17 → bX5_call_183 G fr lo h17 Q) (fun r h2 => Q (.threw r) h2)))) ∧ (¬ x3 ≤ x6 → tg h x5 = 16 ∧ ((¬ (fI h x5 3840) = 0 → bX5_call_50 G fr lo x0 x1 x3 x4 x5 x6 x5 h Q) ∧ ((fI h x5 3840) = 0 → bX5_call_50 G fr lo x0 x1 x3 x4 x5 x6 (fR h x5 3842) h Q))))
set_option maxRecDepth 100000 in
theorem uX5_call_26 {G : xG} {fr lo : Nat} {x0 : Nat} {x1 : Nat} {x3 : Int32} {x4 : Int32} {x5 : Nat} {x6 : Int32} {h : xH} {Q : Outcome → xH → Prop} (hq : bX5_call_26 G fr lo x0 x1 x3 x4 x5 x6 h Q) : xP G YX5_call fr lo 26 [(0, rv x0), (1, rv x1), (3, .int x3), (4, .int x4), (5, rv x5), (6, .int x6)] [] h Q := by
  unfold bX5_call_26 at hq
  refine x_iload 5 dX5_call_26 rfl ?_
  refine x_iload_n 2 dX5_call_28 rfl ?_
  refine x_icmp_ge (tgt := 113) dX5_call_29 (by decide) (fun c1 => ?_) (fun c1 => ?_)
  · replace hq := hq.1 c1
    refine x_aload_n 1 dX5_call_113 rfl ?_
    obtain ⟨g2, hq⟩ := hq
    refine x_getN (v := .int (fI h x1 4108)) gfX5_522 dX5_call_114 g2 rfl ?_
    refine x_if_eq (tgt := 152) dX5_call_117 (by decide) (fun c3 => ?_) (fun c3 => ?_)
    · replace hq := hq.1 c3
      refine x_aload_n 0 dX5_call_152 rfl ?_
      obtain ⟨g4, hq⟩ := hq
      refine x_get (v := rv (fR h x0 1281)) fdX5_62 dX5_call_153 g4 rfl ?_
      refine x_bipush (v := 58) dX5_call_156 (by decide) ?_
      refine x_aload_n 1 dX5_call_158 rfl ?_
      refine x_getN (v := .int (fI h x1 4105)) gfX5_531 dX5_call_159 g2 rfl ?_
      refine x_aload_n 0 dX5_call_162 rfl ?_
      refine x_get (v := rv (fR h x0 1295)) fdX5_416 dX5_call_163 g4 rfl ?_
      obtain ⟨g5, hq⟩ := hq
      refine x_getN (v := .int (fI h (fR h x0 1295) 4102)) gfX5_447 dX5_call_166 g5 rfl ?_
      refine x_aload_n 1 dX5_call_169 rfl ?_
      refine x_getN (v := .int (fI h x1 4102)) gfX5_447 dX5_call_170 g2 rfl ?_
      refine x_isub dX5_call_173 ?_
      refine x_iconst (v := 1) dX5_call_174 (by decide) ?_
      refine x_iadd dX5_call_175 ?_
      refine x_iconst (v := 0) dX5_call_176 (by decide) ?_
      refine x_iload 3 dX5_call_177 rfl ?_
      obtain ⟨g6, hq⟩ := hq
      obtain ⟨g7, g8, hq⟩ := hq
      refine x_callV (Yc := YX2_put) (as := [.int 58, .int (fI h x1 4105), .int (((fI h (fR h x0 1295) 4102) - (fI h x1 4102)) + 1), .int 0, .int x4]) (st := []) q2494 mvX2_put g6 rfl dX5_call_179 (xle (xal1 (rv_cat _) (xal1 rfl (xal1 rfl (xal1 rfl (xal1 rfl (xal1 rfl xal0)))))) (by decide)) (xfr g7) (xlo xsw0 (by decide) g8) (xKi hq (fun x10 h9 hq e11 => ?_) (fun _ _ q _ => q))
      replace hq := hq e11
      refine x_pop dX5_call_182 rfl ?_
      refine xP.pick (lv' := []) [] rfl ?_
      exact uX5_call_183 hq
    · replace hq := hq.2 c3
      refine x_aload_n 0 dX5_call_120 rfl ?_
      obtain ⟨g12, hq⟩ := hq
      refine x_get (v := rv (fR h x0 1281)) fdX5_62 dX5_call_121 g12 rfl ?_
      refine x_bipush (v := 59) dX5_call_124 (by decide) ?_
      refine x_aload_n 0 dX5_call_126 rfl ?_
      refine x_get (v := rv (fR h x0 1295)) fdX5_416 dX5_call_127 g12 rfl ?_
      obtain ⟨g13, hq⟩ := hq
      refine x_getN (v := .int (fI h (fR h x0 1295) 4102)) gfX5_447 dX5_call_130 g13 rfl ?_
      refine x_aload_n 1 dX5_call_133 rfl ?_
      refine x_getN (v := .int (fI h x1 4107)) gfX5_568 dX5_call_134 g2 rfl ?_
      refine x_isub dX5_call_137 ?_
      refine x_aload_n 1 dX5_call_138 rfl ?_
      refine x_getN (v := .int (fI h x1 4106)) gfX5_567 dX5_call_139 g2 rfl ?_
      refine x_iconst (v := 0) dX5_call_142 (by decide) ?_
      refine x_iload 3 dX5_call_143 rfl ?_
      obtain ⟨g14, hq⟩ := hq
      obtain ⟨g15, g16, hq⟩ := hq
      refine x_callV (Yc := YX2_put) (as := [.int 59, .int ((fI h (fR h x0 1295) 4102) - (fI h x1 4107)), .int (fI h x1 4106), .int 0, .int x4]) (st := []) q2494 mvX2_put g14 rfl dX5_call_145 (xle (xal1 (rv_cat _) (xal1 rfl (xal1 rfl (xal1 rfl (xal1 rfl (xal1 rfl xal0)))))) (by decide)) (xfr g15) (xlo xsw0 (by decide) g16) (xKi hq (fun x18 h17 hq e19 => ?_) (fun _ _ q _ => q))
      replace hq := hq e19
      refine x_pop dX5_call_148 rfl ?_
      refine x_goto (tgt := 183) dX5_call_149 (by decide) ?_
      refine xP.pick (lv' := []) [] rfl ?_
      exact uX5_call_183 hq
  · replace hq := hq.2 c1
    refine x_aload 4 dX5_call_32 rfl ?_
    obtain ⟨g20, hq⟩ := hq
    refine x_getN (v := .int (fI h x5 3840)) gfX5_264 dX5_call_34 g20 rfl ?_
    refine x_if_ne (tgt := 48) dX5_call_37 (by decide) (fun c21 => ?_) (fun c21 => ?_)
    · replace hq := hq.1 c21
      refine x_aload 4 dX5_call_48 rfl ?_
      exact uX5_call_50 hq
    · replace hq := hq.2 c21
      refine x_aload 4 dX5_call_40 rfl ?_
      refine x_getN (v := rv (fR h x5 3842)) gfX5_251 dX5_call_42 g20 rfl ?_
      refine x_goto (tgt := 50) dX5_call_45 (by decide) ?_
      exact uX5_call_50 hq
set_option maxRecDepth 100000 in
def bX5_call (G : xG) (fr lo : Nat) (x0 : Nat) (x1 : Nat) (x2 : Nat) (x3 : Int32) (x4 : Int32) (h : xH) (Q : Outcome → xH → Prop) : Prop := tg h x1 = 17 ∧ tg h (fR h x1 4099) = 29 ∧ 1 ≤ fr ∧ 13 ≤ lo ∧ xRi G YJ2_size (fr - 1) (lo - 13) [rv (fR h x1 4099)] h (fun x6 h5 => xext h h5 → ((x3 = x6 → lX5_call_26 G fr lo x0 x1 x3 x4 x2 0 h5 Q) ∧ (¬ x3 = x6 → tg h5 x0 = 6 ∧ 1 ≤ fr ∧ 14 ≤ lo ∧ xRr G YX5_fault (fr - 1) (lo - 14) [rv x0, .int 9, .int x4] h5 (fun x13 h12 => xext h5 h12 → (∃ r15, x13 = r15 + 1 ∧ Q (.threw r15) h12)) (fun r h2 => Q (.threw r) h2)))) (fun r h2 => Q (.threw r) h2)
set_option maxRecDepth 100000 in
theorem uX5_call {G : xG} {fr lo : Nat} {x0 : Nat} {x1 : Nat} {x2 : Nat} {x3 : Int32} {x4 : Int32} {h : xH} {Q : Outcome → xH → Prop} (hq : bX5_call G fr lo x0 x1 x2 x3 x4 h Q) : xP G YX5_call fr lo 0 [(0, rv x0), (1, rv x1), (2, rv x2), (3, .int x3), (4, .int x4)] [] h Q := by
  unfold bX5_call at hq
  refine x_iload_n 3 dX5_call_0 rfl ?_
  refine x_aload_n 1 dX5_call_1 rfl ?_
  obtain ⟨g1, hq⟩ := hq
  refine x_getN (v := rv (fR h x1 4099)) gfX5_560 dX5_call_2 g1 rfl ?_
  obtain ⟨g2, hq⟩ := hq
  obtain ⟨g3, g4, hq⟩ := hq
  refine x_callV (Yc := YJ2_size) (as := []) (st := [.int x3]) q2271 mvJ2_size g2 rfl dX5_call_5 (xle (xal1 (rv_cat _) xal0) (by decide)) (xfr g3) (xlo (xsw1 rfl xsw0) (by decide) g4) (xKi hq (fun x6 h5 hq e7 => ?_) (fun _ _ q _ => q))
  replace hq := hq e7
  refine x_icmp_eq (tgt := 20) dX5_call_8 (by decide) (fun c8 => ?_) (fun c8 => ?_)
  · replace hq := hq.1 c8
    refine x_aload_n 2 dX5_call_20 rfl ?_
    refine x_astore (lv' := [(5, rv x2), (0, rv x0), (1, rv x1), (2, rv x2), (3, .int x3), (4, .int x4)]) dX5_call_21 (by decide) rfl ?_
    refine x_iconst (v := 0) dX5_call_23 (by decide) ?_
    refine x_istore (lv' := [(6, .int 0), (5, rv x2), (0, rv x0), (1, rv x1), (2, rv x2), (3, .int x3), (4, .int x4)]) dX5_call_24 (by decide) (by first | rfl | (simp [rv_cat, Value.category]; done) | (simp [rv_cat, Value.category]; decide)) ?_
    refine xP.pick (lv' := [(0, rv x0), (1, rv x1), (3, .int x3), (4, .int x4), (5, rv x2), (6, .int 0)]) [2, 3, 5, 6, 1, 0] rfl ?_
    exact hq
  · replace hq := hq.2 c8
    refine x_aload_n 0 dX5_call_11 rfl ?_
    refine x_bipush (v := 9) dX5_call_12 (by decide) ?_
    refine x_iload 4 dX5_call_14 rfl ?_
    obtain ⟨g9, hq⟩ := hq
    obtain ⟨g10, g11, hq⟩ := hq
    refine x_callV (Yc := YX5_fault) (as := [.int 9, .int x4]) (st := []) q2087 mvX5_fault g9 rfl dX5_call_16 (xle (xal1 (rv_cat _) (xal1 rfl (xal1 rfl xal0))) (by decide)) (xfr g10) (xlo xsw0 (by decide) g11) (xKr hq (fun x13 h12 hq e14 => ?_) (fun _ _ q _ => q))
    replace hq := hq e14
    obtain ⟨r15, g16, hq⟩ := hq
    rw [g16]
    exact x_athrow dX5_call_19 hq
theorem rX5_call {G : xG} {fr lo : Nat} {x0 : Nat} {x1 : Nat} {x2 : Nat} {x3 : Int32} {x4 : Int32} {h : xH} {Q : Outcome → xH → Prop} (hq : bX5_call G fr lo x0 x1 x2 x3 x4 h Q) : xR G YX5_call fr lo [rv x0, rv x1, rv x2, .int x3, .int x4] h Q := by
  show xP _ _ _ _ _ (lv_args 0 _) _ _ _
  rw [show lv_args 0 [rv x0, rv x1, rv x2, .int x3, .int x4] = [(0, rv x0), (1, rv x1), (2, rv x2), (3, .int x3), (4, .int x4)] from (xla1 (rv_cat _) (xla1 (rv_cat _) (xla1 (rv_cat _) (xla1 rfl (xla1 rfl xla0)))))]
  exact uX5_call hq
set_option maxRecDepth 100000 in
theorem dX5_argument_0 : decode cX5_argument 0 = .ok (.aload_n 1, 1) := by decide +kernel
set_option maxRecDepth 100000 in
theorem dX5_argument_1 : decode cX5_argument 1 = .ok (.getfield 744, 3) := by decide +kernel
set_option maxRecDepth 100000 in
theorem dX5_argument_4 : decode cX5_argument 4 = .ok (.ifCond .ne 49, 3) := by decide +kernel
set_option maxRecDepth 100000 in
theorem dX5_argument_7 : decode cX5_argument 7 = .ok (.aload_n 0, 1) := by decide +kernel
set_option maxRecDepth 100000 in
theorem dX5_argument_8 : decode cX5_argument 8 = .ok (.aload_n 2, 1) := by decide +kernel
set_option maxRecDepth 100000 in
theorem dX5_argument_9 : decode cX5_argument 9 = .ok (.invokevirtual 654, 3) := by decide +kernel
set_option maxRecDepth 100000 in
theorem dX5_argument_12 : decode cX5_argument 12 = .ok (.astore_n 3, 1) := by decide +kernel
set_option maxRecDepth 100000 in
theorem dX5_argument_13 : decode cX5_argument 13 = .ok (.aload_n 1, 1) := by decide +kernel
set_option maxRecDepth 100000 in
theorem dX5_argument_14 : decode cX5_argument 14 = .ok (.getfield 746, 3) := by decide +kernel
set_option maxRecDepth 100000 in
theorem dX5_argument_17 : decode cX5_argument 17 = .ok (.aload_n 3, 1) := by decide +kernel
set_option maxRecDepth 100000 in
theorem dX5_argument_18 : decode cX5_argument 18 = .ok (.invokevirtual 678, 3) := by decide +kernel
set_option maxRecDepth 100000 in
theorem dX5_argument_21 : decode cX5_argument 21 = .ok (.ifCond .ne 15, 3) := by decide +kernel
set_option maxRecDepth 100000 in
theorem dX5_argument_24 : decode cX5_argument 24 = .ok (.aload_n 0, 1) := by decide +kernel
set_option maxRecDepth 100000 in
theorem dX5_argument_25 : decode cX5_argument 25 = .ok (.bipush 7, 2) := by decide +kernel
set_option maxRecDepth 100000 in
theorem dX5_argument_27 : decode cX5_argument 27 = .ok (.aload_n 0, 1) := by decide +kernel
set_option maxRecDepth 100000 in
theorem dX5_argument_28 : decode cX5_argument 28 = .ok (.aload_n 2, 1) := by decide +kernel
set_option maxRecDepth 100000 in
theorem dX5_argument_29 : decode cX5_argument 29 = .ok (.invokevirtual 624, 3) := by decide +kernel
set_option maxRecDepth 100000 in
theorem dX5_argument_32 : decode cX5_argument 32 = .ok (.invokevirtual 163, 3) := by decide +kernel
set_option maxRecDepth 100000 in
theorem dX5_argument_35 : decode cX5_argument 35 = .ok (.athrow, 1) := by decide +kernel
set_option maxRecDepth 100000 in
theorem dX5_argument_36 : decode cX5_argument 36 = .ok (.aload_n 0, 1) := by decide +kernel
set_option maxRecDepth 100000 in
theorem dX5_argument_37 : decode cX5_argument 37 = .ok (.aload_n 1, 1) := by decide +kernel
set_option maxRecDepth 100000 in
theorem dX5_argument_38 : decode cX5_argument 38 = .ok (.getfield 746, 3) := by decide +kernel
set_option maxRecDepth 100000 in
theorem dX5_argument_41 : decode cX5_argument 41 = .ok (.aload_n 3, 1) := by decide +kernel
set_option maxRecDepth 100000 in
theorem dX5_argument_42 : decode cX5_argument 42 = .ok (.aload_n 0, 1) := by decide +kernel
set_option maxRecDepth 100000 in
theorem dX5_argument_43 : decode cX5_argument 43 = .ok (.aload_n 2, 1) := by decide +kernel
set_option maxRecDepth 100000 in
theorem dX5_argument_44 : decode cX5_argument 44 = .ok (.invokevirtual 624, 3) := by decide +kernel
set_option maxRecDepth 100000 in
theorem dX5_argument_47 : decode cX5_argument 47 = .ok (.invokevirtual 720, 3) := by decide +kernel
set_option maxRecDepth 100000 in
theorem dX5_argument_50 : decode cX5_argument 50 = .ok (.goto 201, 3) := by decide +kernel
set_option maxRecDepth 100000 in
theorem dX5_argument_53 : decode cX5_argument 53 = .ok (.aload_n 1, 1) := by decide +kernel
set_option maxRecDepth 100000 in
theorem dX5_argument_54 : decode cX5_argument 54 = .ok (.getfield 744, 3) := by decide +kernel
set_option maxRecDepth 100000 in
theorem dX5_argument_57 : decode cX5_argument 57 = .ok (.iconst 1, 1) := by decide +kernel
set_option maxRecDepth 100000 in
theorem dX5_argument_58 : decode cX5_argument 58 = .ok (.if_icmp .ne 64, 3) := by decide +kernel
set_option maxRecDepth 100000 in
theorem dX5_argument_61 : decode cX5_argument 61 = .ok (.aload_n 0, 1) := by decide +kernel
set_option maxRecDepth 100000 in
theorem dX5_argument_62 : decode cX5_argument 62 = .ok (.aload_n 2, 1) := by decide +kernel
set_option maxRecDepth 100000 in
theorem dX5_argument_63 : decode cX5_argument 63 = .ok (.invokevirtual 688, 3) := by decide +kernel
set_option maxRecDepth 100000 in
theorem dX5_argument_66 : decode cX5_argument 66 = .ok (.astore_n 3, 1) := by decide +kernel
set_option maxRecDepth 100000 in
theorem dX5_argument_67 : decode cX5_argument 67 = .ok (.aload_n 0, 1) := by decide +kernel
set_option maxRecDepth 100000 in
theorem dX5_argument_68 : decode cX5_argument 68 = .ok (.getfield 702, 3) := by decide +kernel
set_option maxRecDepth 100000 in
theorem dX5_argument_71 : decode cX5_argument 71 = .ok (.ifnull 15, 3) := by decide +kernel
set_option maxRecDepth 100000 in
theorem dX5_argument_74 : decode cX5_argument 74 = .ok (.aload_n 0, 1) := by decide +kernel
set_option maxRecDepth 100000 in
theorem dX5_argument_75 : decode cX5_argument 75 = .ok (.bipush 6, 2) := by decide +kernel
set_option maxRecDepth 100000 in
theorem dX5_argument_77 : decode cX5_argument 77 = .ok (.aload_n 0, 1) := by decide +kernel
set_option maxRecDepth 100000 in
theorem dX5_argument_78 : decode cX5_argument 78 = .ok (.aload_n 2, 1) := by decide +kernel
set_option maxRecDepth 100000 in
theorem dX5_argument_79 : decode cX5_argument 79 = .ok (.invokevirtual 624, 3) := by decide +kernel
set_option maxRecDepth 100000 in
theorem dX5_argument_82 : decode cX5_argument 82 = .ok (.invokevirtual 163, 3) := by decide +kernel
set_option maxRecDepth 100000 in
theorem dX5_argument_85 : decode cX5_argument 85 = .ok (.athrow, 1) := by decide +kernel
set_option maxRecDepth 100000 in
theorem dX5_argument_86 : decode cX5_argument 86 = .ok (.aload_n 3, 1) := by decide +kernel
set_option maxRecDepth 100000 in
theorem dX5_argument_87 : decode cX5_argument 87 = .ok (.aload_n 1, 1) := by decide +kernel
set_option maxRecDepth 100000 in
theorem dX5_argument_88 : decode cX5_argument 88 = .ok (.getfield 746, 3) := by decide +kernel
set_option maxRecDepth 100000 in
theorem dX5_argument_91 : decode cX5_argument 91 = .ok (.if_acmp .eq 15, 3) := by decide +kernel
set_option maxRecDepth 100000 in
theorem dX5_argument_94 : decode cX5_argument 94 = .ok (.aload_n 0, 1) := by decide +kernel
set_option maxRecDepth 100000 in
theorem dX5_argument_95 : decode cX5_argument 95 = .ok (.bipush 7, 2) := by decide +kernel
set_option maxRecDepth 100000 in
theorem dX5_argument_97 : decode cX5_argument 97 = .ok (.aload_n 0, 1) := by decide +kernel
set_option maxRecDepth 100000 in
theorem dX5_argument_98 : decode cX5_argument 98 = .ok (.aload_n 2, 1) := by decide +kernel
set_option maxRecDepth 100000 in
theorem dX5_argument_99 : decode cX5_argument 99 = .ok (.invokevirtual 624, 3) := by decide +kernel
set_option maxRecDepth 100000 in
theorem dX5_argument_102 : decode cX5_argument 102 = .ok (.invokevirtual 163, 3) := by decide +kernel
set_option maxRecDepth 100000 in
theorem dX5_argument_105 : decode cX5_argument 105 = .ok (.athrow, 1) := by decide +kernel
set_option maxRecDepth 100000 in
theorem dX5_argument_106 : decode cX5_argument 106 = .ok (.aload_n 0, 1) := by decide +kernel
set_option maxRecDepth 100000 in
theorem dX5_argument_107 : decode cX5_argument 107 = .ok (.aload_n 0, 1) := by decide +kernel
set_option maxRecDepth 100000 in
theorem dX5_argument_108 : decode cX5_argument 108 = .ok (.getfield 705, 3) := by decide +kernel
set_option maxRecDepth 100000 in
theorem dX5_argument_111 : decode cX5_argument 111 = .ok (.aload_n 0, 1) := by decide +kernel
set_option maxRecDepth 100000 in
theorem dX5_argument_112 : decode cX5_argument 112 = .ok (.aload_n 2, 1) := by decide +kernel
set_option maxRecDepth 100000 in
theorem dX5_argument_113 : decode cX5_argument 113 = .ok (.invokevirtual 624, 3) := by decide +kernel
set_option maxRecDepth 100000 in
theorem dX5_argument_116 : decode cX5_argument 116 = .ok (.invokevirtual 708, 3) := by decide +kernel
set_option maxRecDepth 100000 in
theorem dX5_argument_119 : decode cX5_argument 119 = .ok (.goto 132, 3) := by decide +kernel
set_option maxRecDepth 100000 in
theorem dX5_argument_122 : decode cX5_argument 122 = .ok (.aload_n 2, 1) := by decide +kernel
set_option maxRecDepth 100000 in
theorem dX5_argument_123 : decode cX5_argument 123 = .ok (.getfield 264, 3) := by decide +kernel
set_option maxRecDepth 100000 in
theorem dX5_argument_126 : decode cX5_argument 126 = .ok (.bipush 58, 2) := by decide +kernel
set_option maxRecDepth 100000 in
theorem dX5_argument_128 : decode cX5_argument 128 = .ok (.if_icmp .ne 10, 3) := by decide +kernel
set_option maxRecDepth 100000 in
theorem dX5_argument_131 : decode cX5_argument 131 = .ok (.aload_n 2, 1) := by decide +kernel
set_option maxRecDepth 100000 in
theorem dX5_argument_132 : decode cX5_argument 132 = .ok (.getfield 293, 3) := by decide +kernel
set_option maxRecDepth 100000 in
theorem dX5_argument_135 : decode cX5_argument 135 = .ok (.ifCond .le 15, 3) := by decide +kernel
set_option maxRecDepth 100000 in
theorem dX5_argument_138 : decode cX5_argument 138 = .ok (.aload_n 0, 1) := by decide +kernel
set_option maxRecDepth 100000 in
theorem dX5_argument_139 : decode cX5_argument 139 = .ok (.bipush 6, 2) := by decide +kernel
set_option maxRecDepth 100000 in
theorem dX5_argument_141 : decode cX5_argument 141 = .ok (.aload_n 0, 1) := by decide +kernel
set_option maxRecDepth 100000 in
theorem dX5_argument_142 : decode cX5_argument 142 = .ok (.aload_n 2, 1) := by decide +kernel
set_option maxRecDepth 100000 in
theorem dX5_argument_143 : decode cX5_argument 143 = .ok (.invokevirtual 624, 3) := by decide +kernel
set_option maxRecDepth 100000 in
theorem dX5_argument_146 : decode cX5_argument 146 = .ok (.invokevirtual 163, 3) := by decide +kernel
set_option maxRecDepth 100000 in
theorem dX5_argument_149 : decode cX5_argument 149 = .ok (.athrow, 1) := by decide +kernel
set_option maxRecDepth 100000 in
theorem dX5_argument_150 : decode cX5_argument 150 = .ok (.aload_n 0, 1) := by decide +kernel
set_option maxRecDepth 100000 in
theorem dX5_argument_151 : decode cX5_argument 151 = .ok (.aload_n 2, 1) := by decide +kernel
set_option maxRecDepth 100000 in
theorem dX5_argument_152 : decode cX5_argument 152 = .ok (.iconst 3, 1) := by decide +kernel
set_option maxRecDepth 100000 in
theorem dX5_argument_153 : decode cX5_argument 153 = .ok (.invokevirtual 245, 3) := by decide +kernel
set_option maxRecDepth 100000 in
theorem dX5_argument_156 : decode cX5_argument 156 = .ok (.getfield 492, 3) := by decide +kernel
set_option maxRecDepth 100000 in
theorem dX5_argument_159 : decode cX5_argument 159 = .ok (.astore_n 3, 1) := by decide +kernel
set_option maxRecDepth 100000 in
theorem dX5_argument_160 : decode cX5_argument 160 = .ok (.aload_n 3, 1) := by decide +kernel
set_option maxRecDepth 100000 in
theorem dX5_argument_161 : decode cX5_argument 161 = .ok (.aload_n 1, 1) := by decide +kernel
set_option maxRecDepth 100000 in
theorem dX5_argument_162 : decode cX5_argument 162 = .ok (.getfield 747, 3) := by decide +kernel
set_option maxRecDepth 100000 in
theorem dX5_argument_165 : decode cX5_argument 165 = .ok (.invokevirtual 750, 3) := by decide +kernel
set_option maxRecDepth 100000 in
theorem dX5_argument_168 : decode cX5_argument 168 = .ok (.ifCond .ne 15, 3) := by decide +kernel
set_option maxRecDepth 100000 in
theorem dX5_argument_171 : decode cX5_argument 171 = .ok (.aload_n 0, 1) := by decide +kernel
set_option maxRecDepth 100000 in
theorem dX5_argument_172 : decode cX5_argument 172 = .ok (.bipush 7, 2) := by decide +kernel
set_option maxRecDepth 100000 in
theorem dX5_argument_174 : decode cX5_argument 174 = .ok (.aload_n 0, 1) := by decide +kernel
set_option maxRecDepth 100000 in
theorem dX5_argument_175 : decode cX5_argument 175 = .ok (.aload_n 2, 1) := by decide +kernel
set_option maxRecDepth 100000 in
theorem dX5_argument_176 : decode cX5_argument 176 = .ok (.invokevirtual 624, 3) := by decide +kernel
set_option maxRecDepth 100000 in
theorem dX5_argument_179 : decode cX5_argument 179 = .ok (.invokevirtual 163, 3) := by decide +kernel
set_option maxRecDepth 100000 in
theorem dX5_argument_182 : decode cX5_argument 182 = .ok (.athrow, 1) := by decide +kernel
set_option maxRecDepth 100000 in
theorem dX5_argument_183 : decode cX5_argument 183 = .ok (.aload_n 3, 1) := by decide +kernel
set_option maxRecDepth 100000 in
theorem dX5_argument_184 : decode cX5_argument 184 = .ok (.getfield 522, 3) := by decide +kernel
set_option maxRecDepth 100000 in
theorem dX5_argument_187 : decode cX5_argument 187 = .ok (.ifCond .eq 34, 3) := by decide +kernel
set_option maxRecDepth 100000 in
theorem dX5_argument_190 : decode cX5_argument 190 = .ok (.aload_n 0, 1) := by decide +kernel
set_option maxRecDepth 100000 in
theorem dX5_argument_191 : decode cX5_argument 191 = .ok (.getfield 62, 3) := by decide +kernel
set_option maxRecDepth 100000 in
theorem dX5_argument_194 : decode cX5_argument 194 = .ok (.bipush 62, 2) := by decide +kernel
set_option maxRecDepth 100000 in
theorem dX5_argument_196 : decode cX5_argument 196 = .ok (.aload_n 0, 1) := by decide +kernel
set_option maxRecDepth 100000 in
theorem dX5_argument_197 : decode cX5_argument 197 = .ok (.getfield 416, 3) := by decide +kernel
set_option maxRecDepth 100000 in
theorem dX5_argument_200 : decode cX5_argument 200 = .ok (.getfield 447, 3) := by decide +kernel
set_option maxRecDepth 100000 in
theorem dX5_argument_203 : decode cX5_argument 203 = .ok (.aload_n 3, 1) := by decide +kernel
set_option maxRecDepth 100000 in
theorem dX5_argument_204 : decode cX5_argument 204 = .ok (.getfield 568, 3) := by decide +kernel
set_option maxRecDepth 100000 in
theorem dX5_argument_207 : decode cX5_argument 207 = .ok (.isub, 1) := by decide +kernel
set_option maxRecDepth 100000 in
theorem dX5_argument_208 : decode cX5_argument 208 = .ok (.aload_n 3, 1) := by decide +kernel
set_option maxRecDepth 100000 in
theorem dX5_argument_209 : decode cX5_argument 209 = .ok (.getfield 567, 3) := by decide +kernel
set_option maxRecDepth 100000 in
theorem dX5_argument_212 : decode cX5_argument 212 = .ok (.iconst 0, 1) := by decide +kernel
set_option maxRecDepth 100000 in
theorem dX5_argument_213 : decode cX5_argument 213 = .ok (.iconst 0, 1) := by decide +kernel
set_option maxRecDepth 100000 in
theorem dX5_argument_214 : decode cX5_argument 214 = .ok (.invokevirtual 506, 3) := by decide +kernel
set_option maxRecDepth 100000 in
theorem dX5_argument_217 : decode cX5_argument 217 = .ok (.pop, 1) := by decide +kernel
set_option maxRecDepth 100000 in
theorem dX5_argument_218 : decode cX5_argument 218 = .ok (.goto 33, 3) := by decide +kernel
set_option maxRecDepth 100000 in
theorem dX5_argument_221 : decode cX5_argument 221 = .ok (.aload_n 0, 1) := by decide +kernel
set_option maxRecDepth 100000 in
theorem dX5_argument_222 : decode cX5_argument 222 = .ok (.getfield 62, 3) := by decide +kernel
set_option maxRecDepth 100000 in
theorem dX5_argument_225 : decode cX5_argument 225 = .ok (.bipush 61, 2) := by decide +kernel
set_option maxRecDepth 100000 in
theorem dX5_argument_227 : decode cX5_argument 227 = .ok (.aload_n 3, 1) := by decide +kernel
set_option maxRecDepth 100000 in
theorem dX5_argument_228 : decode cX5_argument 228 = .ok (.getfield 531, 3) := by decide +kernel
set_option maxRecDepth 100000 in
theorem dX5_argument_231 : decode cX5_argument 231 = .ok (.aload_n 0, 1) := by decide +kernel
set_option maxRecDepth 100000 in
theorem dX5_argument_232 : decode cX5_argument 232 = .ok (.getfield 416, 3) := by decide +kernel
set_option maxRecDepth 100000 in
theorem dX5_argument_235 : decode cX5_argument 235 = .ok (.getfield 447, 3) := by decide +kernel
set_option maxRecDepth 100000 in
theorem dX5_argument_238 : decode cX5_argument 238 = .ok (.aload_n 3, 1) := by decide +kernel
set_option maxRecDepth 100000 in
theorem dX5_argument_239 : decode cX5_argument 239 = .ok (.getfield 447, 3) := by decide +kernel
set_option maxRecDepth 100000 in
theorem dX5_argument_242 : decode cX5_argument 242 = .ok (.isub, 1) := by decide +kernel
set_option maxRecDepth 100000 in
theorem dX5_argument_243 : decode cX5_argument 243 = .ok (.iconst 1, 1) := by decide +kernel
set_option maxRecDepth 100000 in
theorem dX5_argument_244 : decode cX5_argument 244 = .ok (.iadd, 1) := by decide +kernel
set_option maxRecDepth 100000 in
theorem dX5_argument_245 : decode cX5_argument 245 = .ok (.iconst 0, 1) := by decide +kernel
set_option maxRecDepth 100000 in
theorem dX5_argument_246 : decode cX5_argument 246 = .ok (.iconst 0, 1) := by decide +kernel
set_option maxRecDepth 100000 in
theorem dX5_argument_247 : decode cX5_argument 247 = .ok (.invokevirtual 506, 3) := by decide +kernel
set_option maxRecDepth 100000 in
theorem dX5_argument_250 : decode cX5_argument 250 = .ok (.pop, 1) := by decide +kernel
set_option maxRecDepth 100000 in
theorem dX5_argument_251 : decode cX5_argument 251 = .ok (.return_, 1) := by decide +kernel
set_option maxRecDepth 100000 in
def bX5_argument_251 (G : xG) (fr lo : Nat) (h : xH) (Q : Outcome → xH → Prop) : Prop := Q (.returned none) h
set_option maxRecDepth 100000 in
theorem uX5_argument_251 {G : xG} {fr lo : Nat} {h : xH} {Q : Outcome → xH → Prop} (hq : bX5_argument_251 G fr lo h Q) : xP G YX5_argument fr lo 251 [] [] h Q := by
  unfold bX5_argument_251 at hq
  exact x_vret rfl dX5_argument_251 hq
set_option maxRecDepth 100000 in
def bX5_argument_138 (G : xG) (fr lo : Nat) (x0 : Nat) (x2 : Nat) (h : xH) (Q : Outcome → xH → Prop) : Prop := tg h x0 = 6 ∧ 1 ≤ fr ∧ 16 ≤ lo ∧ xRi G YX5_firstOf (fr - 1) (lo - 16) [rv x0, rv x2] h (fun x5 h4 => xext h h4 → 1 ≤ fr ∧ 14 ≤ lo ∧ xRr G YX5_fault (fr - 1) (lo - 14) [rv x0, .int 6, .int x5] h4 (fun x11 h10 => xext h4 h10 → (∃ r13, x11 = r13 + 1 ∧ Q (.threw r13) h10)) (fun r h2 => Q (.threw r) h2)) (fun r h2 => Q (.threw r) h2)
set_option maxRecDepth 100000 in
theorem uX5_argument_138 {G : xG} {fr lo : Nat} {x0 : Nat} {x2 : Nat} {h : xH} {Q : Outcome → xH → Prop} (hq : bX5_argument_138 G fr lo x0 x2 h Q) : xP G YX5_argument fr lo 138 [(0, rv x0), (2, rv x2)] [] h Q := by
  unfold bX5_argument_138 at hq
  refine x_aload_n 0 dX5_argument_138 rfl ?_
  refine x_bipush (v := 6) dX5_argument_139 (by decide) ?_
  refine x_aload_n 0 dX5_argument_141 rfl ?_
  refine x_aload_n 1 dX5_argument_142 rfl ?_
  obtain ⟨g1, hq⟩ := hq
  obtain ⟨g2, g3, hq⟩ := hq
  refine x_callV (Yc := YX5_firstOf) (as := [rv x2]) (st := [.int 6, rv x0]) q2510 mvX5_firstOf g1 rfl dX5_argument_143 (xle (xal1 (rv_cat _) (xal1 (rv_cat _) xal0)) (by decide)) (xfr g2) (xlo (xsw1 rfl (xsw1 (rv_cat _) xsw0)) (by decide) g3) (xKi hq (fun x5 h4 hq e6 => ?_) (fun _ _ q _ => q))
  replace hq := hq e6
  have t7 : tg h4 x0 = 6 := e6.tg g1 (by decide)
  obtain ⟨g8, g9, hq⟩ := hq
  refine x_callV (Yc := YX5_fault) (as := [.int 6, .int x5]) (st := []) q2087 mvX5_fault t7 rfl dX5_argument_146 (xle (xal1 (rv_cat _) (xal1 rfl (xal1 rfl xal0))) (by decide)) (xfr g8) (xlo xsw0 (by decide) g9) (xKr hq (fun x11 h10 hq e12 => ?_) (fun _ _ q _ => q))
  replace hq := hq e12
  obtain ⟨r13, g14, hq⟩ := hq
  rw [g14]
  exact x_athrow dX5_argument_149 hq
set_option maxRecDepth 100000 in
def bX5_argument (G : xG) (fr lo : Nat) (x0 : Nat) (x1 : Nat) (x2 : Nat) (h : xH) (Q : Outcome → xH → Prop) : Prop := tg h x1 = 22 ∧ ((¬ (fI h x1 5376) = 0 → ((¬ (fI h x1 5376) = 1 → tg h x2 = 16 ∧ ((¬ (fI h x2 3840) = 58 → bX5_argument_138 G fr lo x0 x2 h Q) ∧ ((fI h x2 3840) = 58 → (((fI h x2 3845) ≤ 0 → tg h x0 = 6 ∧ 1 ≤ fr ∧ 15 ≤ lo ∧ xRr G YX5_findKind (fr - 1) (lo - 15) [rv x0, rv x2, .int 3] h (fun x11 h10 => xext h h10 → tg h10 x11 = 9 ∧ tg h10 (fR h10 x11 2059) = 17 ∧ 1 ≤ fr ∧ 17 ≤ lo ∧ xRi G YX16_isLike (fr - 1) (lo - 17) [rv (fR h10 x11 2059), rv (fR h10 x1 5378)] h10 (fun x19 h18 => xext h10 h18 → ((¬ x19 = 0 → (((fI h18 (fR h10 x11 2059) 4108) = 0 → tg h18 (fR h18 x0 1295) = 17 ∧ tg h18 (fR h18 x0 1281) = 3 ∧ 1 ≤ fr ∧ 17 ≤ lo ∧ xRi G YX2_put (fr - 1) (lo - 17) [rv (fR h18 x0 1281), .int 61, .int (fI h18 (fR h10 x11 2059) 4105), .int (((fI h18 (fR h18 x0 1295) 4102) - (fI h18 (fR h10 x11 2059) 4102)) + 1), .int 0, .int 0] h18 (fun x31 h30 => xext h18 h30 → bX5_argument_251 G fr lo h30 Q) (fun r h2 => Q (.threw r) h2)) ∧ (¬ (fI h18 (fR h10 x11 2059) 4108) = 0 → tg h18 (fR h18 x0 1295) = 17 ∧ tg h18 (fR h18 x0 1281) = 3 ∧ 1 ≤ fr ∧ 17 ≤ lo ∧ xRi G YX2_put (fr - 1) (lo - 17) [rv (fR h18 x0 1281), .int 62, .int ((fI h18 (fR h18 x0 1295) 4102) - (fI h18 (fR h10 x11 2059) 4107)), .int (fI h18 (fR h10 x11 2059) 4106), .int 0, .int 0] h18 (fun x40 h39 => xext h18 h39 → bX5_argument_251 G fr lo h39 Q) (fun r h2 => Q (.threw r) h2)))) ∧ (x19 = 0 → 1 ≤ fr ∧ 16 ≤ lo ∧ xRi G YX5_firstOf (fr - 1) (lo - 16) [rv x0, rv x2] h18 (fun x47 h46 => xext h18 h46 → 1 ≤ fr ∧ 14 ≤ lo ∧ xRr G YX5_fault (fr - 1) (lo - 14) [rv x0, .int 7, .int x47] h46 (fun x53 h52 => xext h46 h52 → (∃ r55, x53 = r55 + 1 ∧ Q (.threw r55) h52)) (fun r h2 => Q (.threw r) h2)) (fun r h2 => Q (.threw r) h2)))) (fun r h2 => Q (.threw r) h2)) (fun r h2 => Q (.threw r) h2)) ∧ (¬ (fI h x2 3845) ≤ 0 → bX5_argument_138 G fr lo x0 x2 h Q))))) ∧ ((fI h x1 5376) = 1 → tg h x0 = 6 ∧ 1 ≤ fr ∧ 17 ≤ lo ∧ xRr G YX5_variable (fr - 1) (lo - 17) [rv x0, rv x2] h (fun x61 h60 => xext h h60 → (((fR h60 x0 1302) = 0 → ((x61 = (fR h60 x1 5377) → 1 ≤ fr ∧ 16 ≤ lo ∧ xRi G YX5_firstOf (fr - 1) (lo - 16) [rv x0, rv x2] h60 (fun x70 h69 => xext h60 h69 → 1 ≤ fr ∧ 14 ≤ lo ∧ xRv G YX5_threaten (fr - 1) (lo - 14) [rv x0, rv (fR h60 x0 1301), .int x70] h69 (fun h75 => xext h69 h75 → bX5_argument_251 G fr lo h75 Q) (fun r h2 => Q (.threw r) h2)) (fun r h2 => Q (.threw r) h2)) ∧ (¬ x61 = (fR h60 x1 5377) → 1 ≤ fr ∧ 16 ≤ lo ∧ xRi G YX5_firstOf (fr - 1) (lo - 16) [rv x0, rv x2] h60 (fun x81 h80 => xext h60 h80 → 1 ≤ fr ∧ 14 ≤ lo ∧ xRr G YX5_fault (fr - 1) (lo - 14) [rv x0, .int 7, .int x81] h80 (fun x87 h86 => xext h80 h86 → (∃ r89, x87 = r89 + 1 ∧ Q (.threw r89) h86)) (fun r h2 => Q (.threw r) h2)) (fun r h2 => Q (.threw r) h2)))) ∧ (¬ (fR h60 x0 1302) = 0 → 1 ≤ fr ∧ 16 ≤ lo ∧ xRi G YX5_firstOf (fr - 1) (lo - 16) [rv x0, rv x2] h60 (fun x94 h93 => xext h60 h93 → 1 ≤ fr ∧ 14 ≤ lo ∧ xRr G YX5_fault (fr - 1) (lo - 14) [rv x0, .int 6, .int x94] h93 (fun x100 h99 => xext h93 h99 → (∃ r102, x100 = r102 + 1 ∧ Q (.threw r102) h99)) (fun r h2 => Q (.threw r) h2)) (fun r h2 => Q (.threw r) h2)))) (fun r h2 => Q (.threw r) h2)))) ∧ ((fI h x1 5376) = 0 → tg h x0 = 6 ∧ 1 ≤ fr ∧ 13 ≤ lo ∧ xRr G YX5_expression (fr - 1) (lo - 13) [rv x0, rv x2] h (fun x108 h107 => xext h h107 → tg h107 (fR h107 x1 5377) = 7 ∧ 1 ≤ fr ∧ 13 ≤ lo ∧ xRi G YX6_takes (fr - 1) (lo - 13) [rv (fR h107 x1 5377), rv x108] h107 (fun x115 h114 => xext h107 h114 → ((¬ x115 = 0 → 1 ≤ fr ∧ 17 ≤ lo ∧ xRi G YX5_firstOf (fr - 1) (lo - 17) [rv x0, rv x2] h114 (fun x124 h123 => xext h114 h123 → 1 ≤ fr ∧ 15 ≤ lo ∧ xRv G YX5_fit (fr - 1) (lo - 15) [rv x0, rv (fR h114 x1 5377), rv x108, .int x124] h123 (fun h129 => xext h123 h129 → bX5_argument_251 G fr lo h129 Q) (fun r h2 => Q (.threw r) h2)) (fun r h2 => Q (.threw r) h2)) ∧ (x115 = 0 → 1 ≤ fr ∧ 16 ≤ lo ∧ xRi G YX5_firstOf (fr - 1) (lo - 16) [rv x0, rv x2] h114 (fun x137 h136 => xext h114 h136 → 1 ≤ fr ∧ 14 ≤ lo ∧ xRr G YX5_fault (fr - 1) (lo - 14) [rv x0, .int 7, .int x137] h136 (fun x143 h142 => xext h136 h142 → (∃ r145, x143 = r145 + 1 ∧ Q (.threw r145) h142)) (fun r h2 => Q (.threw r) h2)) (fun r h2 => Q (.threw r) h2)))) (fun r h2 => Q (.threw r) h2)) (fun r h2 => Q (.threw r) h2)))
set_option maxRecDepth 100000 in
theorem uX5_argument {G : xG} {fr lo : Nat} {x0 : Nat} {x1 : Nat} {x2 : Nat} {h : xH} {Q : Outcome → xH → Prop} (hq : bX5_argument G fr lo x0 x1 x2 h Q) : xP G YX5_argument fr lo 0 [(0, rv x0), (1, rv x1), (2, rv x2)] [] h Q := by
  unfold bX5_argument at hq
  refine x_aload_n 1 dX5_argument_0 rfl ?_
  obtain ⟨g1, hq⟩ := hq
  refine x_getN (v := .int (fI h x1 5376)) gfX5_744 dX5_argument_1 g1 rfl ?_
  refine x_if_ne (tgt := 53) dX5_argument_4 (by decide) (fun c2 => ?_) (fun c2 => ?_)
  · replace hq := hq.1 c2
    refine x_aload_n 1 dX5_argument_53 rfl ?_
    refine x_getN (v := .int (fI h x1 5376)) gfX5_744 dX5_argument_54 g1 rfl ?_
    refine x_iconst (v := 1) dX5_argument_57 (by decide) ?_
    refine x_icmp_ne (tgt := 122) dX5_argument_58 (by decide) (fun c3 => ?_) (fun c3 => ?_)
    · replace hq := hq.1 c3
      refine x_aload_n 2 dX5_argument_122 rfl ?_
      obtain ⟨g4, hq⟩ := hq
      refine x_getN (v := .int (fI h x2 3840)) gfX5_264 dX5_argument_123 g4 rfl ?_
      refine x_bipush (v := 58) dX5_argument_126 (by decide) ?_
      refine x_icmp_ne (tgt := 138) dX5_argument_128 (by decide) (fun c5 => ?_) (fun c5 => ?_)
      · replace hq := hq.1 c5
        refine xP.pick (lv' := [(0, rv x0), (2, rv x2)]) [0, 2] rfl ?_
        exact uX5_argument_138 hq
      · replace hq := hq.2 c5
        refine x_aload_n 2 dX5_argument_131 rfl ?_
        refine x_getN (v := .int (fI h x2 3845)) gfX5_293 dX5_argument_132 g4 rfl ?_
        refine x_if_le (tgt := 150) dX5_argument_135 (by decide) (fun c6 => ?_) (fun c6 => ?_)
        · replace hq := hq.1 c6
          refine x_aload_n 0 dX5_argument_150 rfl ?_
          refine x_aload_n 2 dX5_argument_151 rfl ?_
          refine x_iconst (v := 3) dX5_argument_152 (by decide) ?_
          obtain ⟨g7, hq⟩ := hq
          obtain ⟨g8, g9, hq⟩ := hq
          refine x_callV (Yc := YX5_findKind) (as := [rv x2, .int 3]) (st := []) q2242 mvX5_findKind g7 rfl dX5_argument_153 (xle (xal1 (rv_cat _) (xal1 (rv_cat _) (xal1 rfl xal0))) (by decide)) (xfr g8) (xlo xsw0 (by decide) g9) (xKr hq (fun x11 h10 hq e12 => ?_) (fun _ _ q _ => q))
          replace hq := hq e12
          obtain ⟨g13, hq⟩ := hq
          refine x_getN (v := rv (fR h10 x11 2059)) gfX5_492 dX5_argument_156 g13 rfl ?_
          refine x_astore_n (lv' := [(3, rv (fR h10 x11 2059)), (0, rv x0), (1, rv x1), (2, rv x2)]) dX5_argument_159 (by decide) (by first | rfl | (simp [rv_cat, Value.category]; done) | (simp [rv_cat, Value.category]; decide)) ?_
          refine x_aload_n 0 dX5_argument_160 rfl ?_
          refine x_aload_n 2 dX5_argument_161 rfl ?_
          have t14 : tg h10 x1 = 22 := e12.tg g1 (by decide)
          refine x_getN (v := rv (fR h10 x1 5378)) gfX5_747 dX5_argument_162 t14 rfl ?_
          obtain ⟨g15, hq⟩ := hq
          obtain ⟨g16, g17, hq⟩ := hq
          refine x_callV (Yc := YX16_isLike) (as := [rv (fR h10 x1 5378)]) (st := []) q2618 mvX16_isLike g15 rfl dX5_argument_165 (xle (xal1 (rv_cat _) (xal1 (rv_cat _) xal0)) (by decide)) (xfr g16) (xlo xsw0 (by decide) g17) (xKi hq (fun x19 h18 hq e20 => ?_) (fun _ _ q _ => q))
          replace hq := hq e20
          refine x_if_ne (tgt := 183) dX5_argument_168 (by decide) (fun c21 => ?_) (fun c21 => ?_)
          · replace hq := hq.1 c21
            refine x_aload_n 0 dX5_argument_183 rfl ?_
            have t22 : tg h18 (fR h10 x11 2059) = 17 := e20.tg g15 (by decide)
            refine x_getN (v := .int (fI h18 (fR h10 x11 2059) 4108)) gfX5_522 dX5_argument_184 t22 rfl ?_
            refine x_if_eq (tgt := 221) dX5_argument_187 (by decide) (fun c23 => ?_) (fun c23 => ?_)
            · replace hq := hq.1 c23
              refine x_aload_n 1 dX5_argument_221 rfl ?_
              have t24 : tg h10 x0 = 6 := e12.tg g7 (by decide)
              have t25 : tg h18 x0 = 6 := e20.tg t24 (by decide)
              refine x_get (v := rv (fR h18 x0 1281)) fdX5_62 dX5_argument_222 t25 rfl ?_
              refine x_bipush (v := 61) dX5_argument_225 (by decide) ?_
              refine x_aload_n 0 dX5_argument_227 rfl ?_
              refine x_getN (v := .int (fI h18 (fR h10 x11 2059) 4105)) gfX5_531 dX5_argument_228 t22 rfl ?_
              refine x_aload_n 1 dX5_argument_231 rfl ?_
              refine x_get (v := rv (fR h18 x0 1295)) fdX5_416 dX5_argument_232 t25 rfl ?_
              obtain ⟨g26, hq⟩ := hq
              refine x_getN (v := .int (fI h18 (fR h18 x0 1295) 4102)) gfX5_447 dX5_argument_235 g26 rfl ?_
              refine x_aload_n 0 dX5_argument_238 rfl ?_
              refine x_getN (v := .int (fI h18 (fR h10 x11 2059) 4102)) gfX5_447 dX5_argument_239 t22 rfl ?_
              refine x_isub dX5_argument_242 ?_
              refine x_iconst (v := 1) dX5_argument_243 (by decide) ?_
              refine x_iadd dX5_argument_244 ?_
              refine x_iconst (v := 0) dX5_argument_245 (by decide) ?_
              refine x_iconst (v := 0) dX5_argument_246 (by decide) ?_
              obtain ⟨g27, hq⟩ := hq
              obtain ⟨g28, g29, hq⟩ := hq
              refine x_callV (Yc := YX2_put) (as := [.int 61, .int (fI h18 (fR h10 x11 2059) 4105), .int (((fI h18 (fR h18 x0 1295) 4102) - (fI h18 (fR h10 x11 2059) 4102)) + 1), .int 0, .int 0]) (st := []) q2494 mvX2_put g27 rfl dX5_argument_247 (xle (xal1 (rv_cat _) (xal1 rfl (xal1 rfl (xal1 rfl (xal1 rfl (xal1 rfl xal0)))))) (by decide)) (xfr g28) (xlo xsw0 (by decide) g29) (xKi hq (fun x31 h30 hq e32 => ?_) (fun _ _ q _ => q))
              replace hq := hq e32
              refine x_pop dX5_argument_250 rfl ?_
              refine xP.pick (lv' := []) [] rfl ?_
              exact uX5_argument_251 hq
            · replace hq := hq.2 c23
              refine x_aload_n 1 dX5_argument_190 rfl ?_
              have t33 : tg h10 x0 = 6 := e12.tg g7 (by decide)
              have t34 : tg h18 x0 = 6 := e20.tg t33 (by decide)
              refine x_get (v := rv (fR h18 x0 1281)) fdX5_62 dX5_argument_191 t34 rfl ?_
              refine x_bipush (v := 62) dX5_argument_194 (by decide) ?_
              refine x_aload_n 1 dX5_argument_196 rfl ?_
              refine x_get (v := rv (fR h18 x0 1295)) fdX5_416 dX5_argument_197 t34 rfl ?_
              obtain ⟨g35, hq⟩ := hq
              refine x_getN (v := .int (fI h18 (fR h18 x0 1295) 4102)) gfX5_447 dX5_argument_200 g35 rfl ?_
              refine x_aload_n 0 dX5_argument_203 rfl ?_
              refine x_getN (v := .int (fI h18 (fR h10 x11 2059) 4107)) gfX5_568 dX5_argument_204 t22 rfl ?_
              refine x_isub dX5_argument_207 ?_
              refine x_aload_n 0 dX5_argument_208 rfl ?_
              refine x_getN (v := .int (fI h18 (fR h10 x11 2059) 4106)) gfX5_567 dX5_argument_209 t22 rfl ?_
              refine x_iconst (v := 0) dX5_argument_212 (by decide) ?_
              refine x_iconst (v := 0) dX5_argument_213 (by decide) ?_
              obtain ⟨g36, hq⟩ := hq
              obtain ⟨g37, g38, hq⟩ := hq
              refine x_callV (Yc := YX2_put) (as := [.int 62, .int ((fI h18 (fR h18 x0 1295) 4102) - (fI h18 (fR h10 x11 2059) 4107)), .int (fI h18 (fR h10 x11 2059) 4106), .int 0, .int 0]) (st := []) q2494 mvX2_put g36 rfl dX5_argument_214 (xle (xal1 (rv_cat _) (xal1 rfl (xal1 rfl (xal1 rfl (xal1 rfl (xal1 rfl xal0)))))) (by decide)) (xfr g37) (xlo xsw0 (by decide) g38) (xKi hq (fun x40 h39 hq e41 => ?_) (fun _ _ q _ => q))
              replace hq := hq e41
              refine x_pop dX5_argument_217 rfl ?_
              refine x_goto (tgt := 251) dX5_argument_218 (by decide) ?_
              refine xP.pick (lv' := []) [] rfl ?_
              exact uX5_argument_251 hq
          · replace hq := hq.2 c21
            refine x_aload_n 1 dX5_argument_171 rfl ?_
            refine x_bipush (v := 7) dX5_argument_172 (by decide) ?_
            refine x_aload_n 1 dX5_argument_174 rfl ?_
            refine x_aload_n 3 dX5_argument_175 rfl ?_
            have t42 : tg h10 x0 = 6 := e12.tg g7 (by decide)
            have t43 : tg h18 x0 = 6 := e20.tg t42 (by decide)
            obtain ⟨g44, g45, hq⟩ := hq
            refine x_callV (Yc := YX5_firstOf) (as := [rv x2]) (st := [.int 7, rv x0]) q2510 mvX5_firstOf t43 rfl dX5_argument_176 (xle (xal1 (rv_cat _) (xal1 (rv_cat _) xal0)) (by decide)) (xfr g44) (xlo (xsw1 rfl (xsw1 (rv_cat _) xsw0)) (by decide) g45) (xKi hq (fun x47 h46 hq e48 => ?_) (fun _ _ q _ => q))
            replace hq := hq e48
            have t49 : tg h46 x0 = 6 := e48.tg t43 (by decide)
            obtain ⟨g50, g51, hq⟩ := hq
            refine x_callV (Yc := YX5_fault) (as := [.int 7, .int x47]) (st := []) q2087 mvX5_fault t49 rfl dX5_argument_179 (xle (xal1 (rv_cat _) (xal1 rfl (xal1 rfl xal0))) (by decide)) (xfr g50) (xlo xsw0 (by decide) g51) (xKr hq (fun x53 h52 hq e54 => ?_) (fun _ _ q _ => q))
            replace hq := hq e54
            obtain ⟨r55, g56, hq⟩ := hq
            rw [g56]
            exact x_athrow dX5_argument_182 hq
        · replace hq := hq.2 c6
          refine xP.pick (lv' := [(0, rv x0), (2, rv x2)]) [0, 2] rfl ?_
          exact uX5_argument_138 hq
    · replace hq := hq.2 c3
      refine x_aload_n 0 dX5_argument_61 rfl ?_
      refine x_aload_n 2 dX5_argument_62 rfl ?_
      obtain ⟨g57, hq⟩ := hq
      obtain ⟨g58, g59, hq⟩ := hq
      refine x_callV (Yc := YX5_variable) (as := [rv x2]) (st := []) q2590 mvX5_variable g57 rfl dX5_argument_63 (xle (xal1 (rv_cat _) (xal1 (rv_cat _) xal0)) (by decide)) (xfr g58) (xlo xsw0 (by decide) g59) (xKr hq (fun x61 h60 hq e62 => ?_) (fun _ _ q _ => q))
      replace hq := hq e62
      refine x_astore_n (lv' := [(3, rv x61), (0, rv x0), (1, rv x1), (2, rv x2)]) dX5_argument_66 (by decide) (by first | rfl | (simp [rv_cat, Value.category]; done) | (simp [rv_cat, Value.category]; decide)) ?_
      refine x_aload_n 1 dX5_argument_67 rfl ?_
      have t63 : tg h60 x0 = 6 := e62.tg g57 (by decide)
      refine x_get (v := rv (fR h60 x0 1302)) fdX5_702 dX5_argument_68 t63 rfl ?_
      refine x_ifnull (tgt := 86) dX5_argument_71 (by decide) (fun c64 => ?_) (fun c64 => ?_)
      · replace hq := hq.1 c64
        refine x_aload_n 0 dX5_argument_86 rfl ?_
        refine x_aload_n 2 dX5_argument_87 rfl ?_
        have t65 : tg h60 x1 = 22 := e62.tg g1 (by decide)
        refine x_getN (v := rv (fR h60 x1 5377)) gfX5_746 dX5_argument_88 t65 rfl ?_
        refine x_acmp_eq (tgt := 106) dX5_argument_91 (by decide) (fun c66 => ?_) (fun c66 => ?_)
        · replace hq := hq.1 c66
          refine x_aload_n 1 dX5_argument_106 rfl ?_
          refine x_aload_n 1 dX5_argument_107 rfl ?_
          refine x_get (v := rv (fR h60 x0 1301)) fdX5_705 dX5_argument_108 t63 rfl ?_
          refine x_aload_n 1 dX5_argument_111 rfl ?_
          refine x_aload_n 3 dX5_argument_112 rfl ?_
          obtain ⟨g67, g68, hq⟩ := hq
          refine x_callV (Yc := YX5_firstOf) (as := [rv x2]) (st := [rv (fR h60 x0 1301), rv x0]) q2510 mvX5_firstOf t63 rfl dX5_argument_113 (xle (xal1 (rv_cat _) (xal1 (rv_cat _) xal0)) (by decide)) (xfr g67) (xlo (xsw1 (rv_cat _) (xsw1 (rv_cat _) xsw0)) (by decide) g68) (xKi hq (fun x70 h69 hq e71 => ?_) (fun _ _ q _ => q))
          replace hq := hq e71
          have t72 : tg h69 x0 = 6 := e71.tg t63 (by decide)
          obtain ⟨g73, g74, hq⟩ := hq
          refine x_callV (Yc := YX5_threaten) (as := [rv (fR h60 x0 1301), .int x70]) (st := []) q2614 mvX5_threaten t72 rfl dX5_argument_116 (xle (xal1 (rv_cat _) (xal1 (rv_cat _) (xal1 rfl xal0))) (by decide)) (xfr g73) (xlo xsw0 (by decide) g74) (xKv hq (fun h75 hq e77 => ?_) (fun _ _ q _ => q))
          replace hq := hq e77
          refine x_goto (tgt := 251) dX5_argument_119 (by decide) ?_
          refine xP.pick (lv' := []) [] rfl ?_
          exact uX5_argument_251 hq
        · replace hq := hq.2 c66
          refine x_aload_n 1 dX5_argument_94 rfl ?_
          refine x_bipush (v := 7) dX5_argument_95 (by decide) ?_
          refine x_aload_n 1 dX5_argument_97 rfl ?_
          refine x_aload_n 3 dX5_argument_98 rfl ?_
          obtain ⟨g78, g79, hq⟩ := hq
          refine x_callV (Yc := YX5_firstOf) (as := [rv x2]) (st := [.int 7, rv x0]) q2510 mvX5_firstOf t63 rfl dX5_argument_99 (xle (xal1 (rv_cat _) (xal1 (rv_cat _) xal0)) (by decide)) (xfr g78) (xlo (xsw1 rfl (xsw1 (rv_cat _) xsw0)) (by decide) g79) (xKi hq (fun x81 h80 hq e82 => ?_) (fun _ _ q _ => q))
          replace hq := hq e82
          have t83 : tg h80 x0 = 6 := e82.tg t63 (by decide)
          obtain ⟨g84, g85, hq⟩ := hq
          refine x_callV (Yc := YX5_fault) (as := [.int 7, .int x81]) (st := []) q2087 mvX5_fault t83 rfl dX5_argument_102 (xle (xal1 (rv_cat _) (xal1 rfl (xal1 rfl xal0))) (by decide)) (xfr g84) (xlo xsw0 (by decide) g85) (xKr hq (fun x87 h86 hq e88 => ?_) (fun _ _ q _ => q))
          replace hq := hq e88
          obtain ⟨r89, g90, hq⟩ := hq
          rw [g90]
          exact x_athrow dX5_argument_105 hq
      · replace hq := hq.2 c64
        refine x_aload_n 1 dX5_argument_74 rfl ?_
        refine x_bipush (v := 6) dX5_argument_75 (by decide) ?_
        refine x_aload_n 1 dX5_argument_77 rfl ?_
        refine x_aload_n 3 dX5_argument_78 rfl ?_
        obtain ⟨g91, g92, hq⟩ := hq
        refine x_callV (Yc := YX5_firstOf) (as := [rv x2]) (st := [.int 6, rv x0]) q2510 mvX5_firstOf t63 rfl dX5_argument_79 (xle (xal1 (rv_cat _) (xal1 (rv_cat _) xal0)) (by decide)) (xfr g91) (xlo (xsw1 rfl (xsw1 (rv_cat _) xsw0)) (by decide) g92) (xKi hq (fun x94 h93 hq e95 => ?_) (fun _ _ q _ => q))
        replace hq := hq e95
        have t96 : tg h93 x0 = 6 := e95.tg t63 (by decide)
        obtain ⟨g97, g98, hq⟩ := hq
        refine x_callV (Yc := YX5_fault) (as := [.int 6, .int x94]) (st := []) q2087 mvX5_fault t96 rfl dX5_argument_82 (xle (xal1 (rv_cat _) (xal1 rfl (xal1 rfl xal0))) (by decide)) (xfr g97) (xlo xsw0 (by decide) g98) (xKr hq (fun x100 h99 hq e101 => ?_) (fun _ _ q _ => q))
        replace hq := hq e101
        obtain ⟨r102, g103, hq⟩ := hq
        rw [g103]
        exact x_athrow dX5_argument_85 hq
  · replace hq := hq.2 c2
    refine x_aload_n 0 dX5_argument_7 rfl ?_
    refine x_aload_n 2 dX5_argument_8 rfl ?_
    obtain ⟨g104, hq⟩ := hq
    obtain ⟨g105, g106, hq⟩ := hq
    refine x_callV (Yc := YX5_expression) (as := [rv x2]) (st := []) q2522 mvX5_expression g104 rfl dX5_argument_9 (xle (xal1 (rv_cat _) (xal1 (rv_cat _) xal0)) (by decide)) (xfr g105) (xlo xsw0 (by decide) g106) (xKr hq (fun x108 h107 hq e109 => ?_) (fun _ _ q _ => q))
    replace hq := hq e109
    refine x_astore_n (lv' := [(3, rv x108), (0, rv x0), (1, rv x1), (2, rv x2)]) dX5_argument_12 (by decide) (by first | rfl | (simp [rv_cat, Value.category]; done) | (simp [rv_cat, Value.category]; decide)) ?_
    refine x_aload_n 2 dX5_argument_13 rfl ?_
    have t110 : tg h107 x1 = 22 := e109.tg g1 (by decide)
    refine x_getN (v := rv (fR h107 x1 5377)) gfX5_746 dX5_argument_14 t110 rfl ?_
    refine x_aload_n 0 dX5_argument_17 rfl ?_
    obtain ⟨g111, hq⟩ := hq
    obtain ⟨g112, g113, hq⟩ := hq
    refine x_callV (Yc := YX6_takes) (as := [rv x108]) (st := []) q2565 mvX6_takes g111 rfl dX5_argument_18 (xle (xal1 (rv_cat _) (xal1 (rv_cat _) xal0)) (by decide)) (xfr g112) (xlo xsw0 (by decide) g113) (xKi hq (fun x115 h114 hq e116 => ?_) (fun _ _ q _ => q))
    replace hq := hq e116
    refine x_if_ne (tgt := 36) dX5_argument_21 (by decide) (fun c117 => ?_) (fun c117 => ?_)
    · replace hq := hq.1 c117
      refine x_aload_n 1 dX5_argument_36 rfl ?_
      refine x_aload_n 2 dX5_argument_37 rfl ?_
      have t118 : tg h114 x1 = 22 := e116.tg t110 (by decide)
      refine x_getN (v := rv (fR h114 x1 5377)) gfX5_746 dX5_argument_38 t118 rfl ?_
      refine x_aload_n 0 dX5_argument_41 rfl ?_
      refine x_aload_n 1 dX5_argument_42 rfl ?_
      refine x_aload_n 3 dX5_argument_43 rfl ?_
      have t119 : tg h107 x0 = 6 := e109.tg g104 (by decide)
      have t120 : tg h114 x0 = 6 := e116.tg t119 (by decide)
      obtain ⟨g121, g122, hq⟩ := hq
      refine x_callV (Yc := YX5_firstOf) (as := [rv x2]) (st := [rv x108, rv (fR h114 x1 5377), rv x0]) q2510 mvX5_firstOf t120 rfl dX5_argument_44 (xle (xal1 (rv_cat _) (xal1 (rv_cat _) xal0)) (by decide)) (xfr g121) (xlo (xsw1 (rv_cat _) (xsw1 (rv_cat _) (xsw1 (rv_cat _) xsw0))) (by decide) g122) (xKi hq (fun x124 h123 hq e125 => ?_) (fun _ _ q _ => q))
      replace hq := hq e125
      have t126 : tg h123 x0 = 6 := e125.tg t120 (by decide)
      obtain ⟨g127, g128, hq⟩ := hq
      refine x_callV (Yc := YX5_fit) (as := [rv (fR h114 x1 5377), rv x108, .int x124]) (st := []) q2586 mvX5_fit t126 rfl dX5_argument_47 (xle (xal1 (rv_cat _) (xal1 (rv_cat _) (xal1 (rv_cat _) (xal1 rfl xal0)))) (by decide)) (xfr g127) (xlo xsw0 (by decide) g128) (xKv hq (fun h129 hq e131 => ?_) (fun _ _ q _ => q))
      replace hq := hq e131
      refine x_goto (tgt := 251) dX5_argument_50 (by decide) ?_
      refine xP.pick (lv' := []) [] rfl ?_
      exact uX5_argument_251 hq
    · replace hq := hq.2 c117
      refine x_aload_n 1 dX5_argument_24 rfl ?_
      refine x_bipush (v := 7) dX5_argument_25 (by decide) ?_
      refine x_aload_n 1 dX5_argument_27 rfl ?_
      refine x_aload_n 3 dX5_argument_28 rfl ?_
      have t132 : tg h107 x0 = 6 := e109.tg g104 (by decide)
      have t133 : tg h114 x0 = 6 := e116.tg t132 (by decide)
      obtain ⟨g134, g135, hq⟩ := hq
      refine x_callV (Yc := YX5_firstOf) (as := [rv x2]) (st := [.int 7, rv x0]) q2510 mvX5_firstOf t133 rfl dX5_argument_29 (xle (xal1 (rv_cat _) (xal1 (rv_cat _) xal0)) (by decide)) (xfr g134) (xlo (xsw1 rfl (xsw1 (rv_cat _) xsw0)) (by decide) g135) (xKi hq (fun x137 h136 hq e138 => ?_) (fun _ _ q _ => q))
      replace hq := hq e138
      have t139 : tg h136 x0 = 6 := e138.tg t133 (by decide)
      obtain ⟨g140, g141, hq⟩ := hq
      refine x_callV (Yc := YX5_fault) (as := [.int 7, .int x137]) (st := []) q2087 mvX5_fault t139 rfl dX5_argument_32 (xle (xal1 (rv_cat _) (xal1 rfl (xal1 rfl xal0))) (by decide)) (xfr g140) (xlo xsw0 (by decide) g141) (xKr hq (fun x143 h142 hq e144 => ?_) (fun _ _ q _ => q))
      replace hq := hq e144
      obtain ⟨r145, g146, hq⟩ := hq
      rw [g146]
      exact x_athrow dX5_argument_35 hq
theorem rX5_argument {G : xG} {fr lo : Nat} {x0 : Nat} {x1 : Nat} {x2 : Nat} {h : xH} {Q : Outcome → xH → Prop} (hq : bX5_argument G fr lo x0 x1 x2 h Q) : xR G YX5_argument fr lo [rv x0, rv x1, rv x2] h Q := by
  show xP _ _ _ _ _ (lv_args 0 _) _ _ _
  rw [show lv_args 0 [rv x0, rv x1, rv x2] = [(0, rv x0), (1, rv x1), (2, rv x2)] from (xla1 (rv_cat _) (xla1 (rv_cat _) (xla1 (rv_cat _) xla0)))]
  exact uX5_argument hq
set_option maxRecDepth 100000 in
theorem dX5_fit_0 : decode cX5_fit 0 = .ok (.aload_n 1, 1) := by decide +kernel
set_option maxRecDepth 100000 in
theorem dX5_fit_1 : decode cX5_fit 1 = .ok (.getfield 289, 3) := by decide +kernel
set_option maxRecDepth 100000 in
theorem dX5_fit_4 : decode cX5_fit 4 = .ok (.iconst 1, 1) := by decide +kernel
set_option maxRecDepth 100000 in
theorem dX5_fit_5 : decode cX5_fit 5 = .ok (.if_icmp .ne 24, 3) := by decide +kernel
set_option maxRecDepth 100000 in
theorem dX5_fit_8 : decode cX5_fit 8 = .ok (.aload_n 2, 1) := by decide +kernel
set_option maxRecDepth 100000 in
theorem dX5_fit_9 : decode cX5_fit 9 = .ok (.getfield 289, 3) := by decide +kernel
set_option maxRecDepth 100000 in
theorem dX5_fit_12 : decode cX5_fit 12 = .ok (.ifCond .ne 17, 3) := by decide +kernel
set_option maxRecDepth 100000 in
theorem dX5_fit_15 : decode cX5_fit 15 = .ok (.aload_n 0, 1) := by decide +kernel
set_option maxRecDepth 100000 in
theorem dX5_fit_16 : decode cX5_fit 16 = .ok (.getfield 62, 3) := by decide +kernel
set_option maxRecDepth 100000 in
theorem dX5_fit_19 : decode cX5_fit 19 = .ok (.bipush 31, 2) := by decide +kernel
set_option maxRecDepth 100000 in
theorem dX5_fit_21 : decode cX5_fit 21 = .ok (.iconst 0, 1) := by decide +kernel
set_option maxRecDepth 100000 in
theorem dX5_fit_22 : decode cX5_fit 22 = .ok (.iconst 0, 1) := by decide +kernel
set_option maxRecDepth 100000 in
theorem dX5_fit_23 : decode cX5_fit 23 = .ok (.iconst 0, 1) := by decide +kernel
set_option maxRecDepth 100000 in
theorem dX5_fit_24 : decode cX5_fit 24 = .ok (.iconst 0, 1) := by decide +kernel
set_option maxRecDepth 100000 in
theorem dX5_fit_25 : decode cX5_fit 25 = .ok (.invokevirtual 506, 3) := by decide +kernel
set_option maxRecDepth 100000 in
theorem dX5_fit_28 : decode cX5_fit 28 = .ok (.pop, 1) := by decide +kernel
set_option maxRecDepth 100000 in
theorem dX5_fit_29 : decode cX5_fit 29 = .ok (.aload_n 1, 1) := by decide +kernel
set_option maxRecDepth 100000 in
theorem dX5_fit_30 : decode cX5_fit 30 = .ok (.getfield 289, 3) := by decide +kernel
set_option maxRecDepth 100000 in
theorem dX5_fit_33 : decode cX5_fit 33 = .ok (.iconst 5, 1) := by decide +kernel
set_option maxRecDepth 100000 in
theorem dX5_fit_34 : decode cX5_fit 34 = .ok (.if_icmp .ne 23, 3) := by decide +kernel
set_option maxRecDepth 100000 in
theorem dX5_fit_37 : decode cX5_fit 37 = .ok (.aload_n 0, 1) := by decide +kernel
set_option maxRecDepth 100000 in
theorem dX5_fit_38 : decode cX5_fit 38 = .ok (.getfield 62, 3) := by decide +kernel
set_option maxRecDepth 100000 in
theorem dX5_fit_41 : decode cX5_fit 41 = .ok (.bipush 64, 2) := by decide +kernel
set_option maxRecDepth 100000 in
theorem dX5_fit_43 : decode cX5_fit 43 = .ok (.aload_n 1, 1) := by decide +kernel
set_option maxRecDepth 100000 in
theorem dX5_fit_44 : decode cX5_fit 44 = .ok (.getfield 338, 3) := by decide +kernel
set_option maxRecDepth 100000 in
theorem dX5_fit_47 : decode cX5_fit 47 = .ok (.aload_n 1, 1) := by decide +kernel
set_option maxRecDepth 100000 in
theorem dX5_fit_48 : decode cX5_fit 48 = .ok (.getfield 335, 3) := by decide +kernel
set_option maxRecDepth 100000 in
theorem dX5_fit_51 : decode cX5_fit 51 = .ok (.iconst 0, 1) := by decide +kernel
set_option maxRecDepth 100000 in
theorem dX5_fit_52 : decode cX5_fit 52 = .ok (.iload_n 3, 1) := by decide +kernel
set_option maxRecDepth 100000 in
theorem dX5_fit_53 : decode cX5_fit 53 = .ok (.invokevirtual 506, 3) := by decide +kernel
set_option maxRecDepth 100000 in
theorem dX5_fit_56 : decode cX5_fit 56 = .ok (.pop, 1) := by decide +kernel
set_option maxRecDepth 100000 in
theorem dX5_fit_57 : decode cX5_fit 57 = .ok (.aload_n 1, 1) := by decide +kernel
set_option maxRecDepth 100000 in
theorem dX5_fit_58 : decode cX5_fit 58 = .ok (.getfield 289, 3) := by decide +kernel
set_option maxRecDepth 100000 in
theorem dX5_fit_61 : decode cX5_fit 61 = .ok (.bipush 8, 2) := by decide +kernel
set_option maxRecDepth 100000 in
theorem dX5_fit_63 : decode cX5_fit 63 = .ok (.if_icmp .ne 29, 3) := by decide +kernel
set_option maxRecDepth 100000 in
theorem dX5_fit_66 : decode cX5_fit 66 = .ok (.aload_n 0, 1) := by decide +kernel
set_option maxRecDepth 100000 in
theorem dX5_fit_67 : decode cX5_fit 67 = .ok (.getfield 62, 3) := by decide +kernel
set_option maxRecDepth 100000 in
theorem dX5_fit_70 : decode cX5_fit 70 = .ok (.bipush 65, 2) := by decide +kernel
set_option maxRecDepth 100000 in
theorem dX5_fit_72 : decode cX5_fit 72 = .ok (.aload_n 1, 1) := by decide +kernel
set_option maxRecDepth 100000 in
theorem dX5_fit_73 : decode cX5_fit 73 = .ok (.getfield 286, 3) := by decide +kernel
set_option maxRecDepth 100000 in
theorem dX5_fit_76 : decode cX5_fit 76 = .ok (.getfield 338, 3) := by decide +kernel
set_option maxRecDepth 100000 in
theorem dX5_fit_79 : decode cX5_fit 79 = .ok (.aload_n 1, 1) := by decide +kernel
set_option maxRecDepth 100000 in
theorem dX5_fit_80 : decode cX5_fit 80 = .ok (.getfield 286, 3) := by decide +kernel
set_option maxRecDepth 100000 in
theorem dX5_fit_83 : decode cX5_fit 83 = .ok (.getfield 335, 3) := by decide +kernel
set_option maxRecDepth 100000 in
theorem dX5_fit_86 : decode cX5_fit 86 = .ok (.iconst 0, 1) := by decide +kernel
set_option maxRecDepth 100000 in
theorem dX5_fit_87 : decode cX5_fit 87 = .ok (.iload_n 3, 1) := by decide +kernel
set_option maxRecDepth 100000 in
theorem dX5_fit_88 : decode cX5_fit 88 = .ok (.invokevirtual 506, 3) := by decide +kernel
set_option maxRecDepth 100000 in
theorem dX5_fit_91 : decode cX5_fit 91 = .ok (.pop, 1) := by decide +kernel
set_option maxRecDepth 100000 in
theorem dX5_fit_92 : decode cX5_fit 92 = .ok (.return_, 1) := by decide +kernel
set_option maxRecDepth 100000 in
def bX5_fit_92 (G : xG) (fr lo : Nat) (h : xH) (Q : Outcome → xH → Prop) : Prop := Q (.returned none) h
set_option maxRecDepth 100000 in
theorem uX5_fit_92 {G : xG} {fr lo : Nat} {h : xH} {Q : Outcome → xH → Prop} (hq : bX5_fit_92 G fr lo h Q) : xP G YX5_fit fr lo 92 [] [] h Q := by
  unfold bX5_fit_92 at hq
  exact x_vret rfl dX5_fit_92 hq
set_option maxRecDepth 100000 in
def bX5_fit_57 (G : xG) (fr lo : Nat) (x0 : Nat) (x1 : Nat) (x3 : Int32) (h : xH) (Q : Outcome → xH → Prop) : Prop := tg h x1 = 7 ∧ ((¬ (fI h x1 1536) = 8 → bX5_fit_92 G fr lo h Q) ∧ ((fI h x1 1536) = 8 → tg h x0 = 6 ∧ tg h (fR h x1 1538) = 7 ∧ tg h (fR h x0 1281) = 3 ∧ 1 ≤ fr ∧ 17 ≤ lo ∧ xRi G YX2_put (fr - 1) (lo - 17) [rv (fR h x0 1281), .int 65, .int (fI h (fR h x1 1538) 1541), .int (fI h (fR h x1 1538) 1542), .int 0, .int x3] h (fun x9 h8 => xext h h8 → bX5_fit_92 G fr lo h8 Q) (fun r h2 => Q (.threw r) h2)))
set_option maxRecDepth 100000 in
theorem uX5_fit_57 {G : xG} {fr lo : Nat} {x0 : Nat} {x1 : Nat} {x3 : Int32} {h : xH} {Q : Outcome → xH → Prop} (hq : bX5_fit_57 G fr lo x0 x1 x3 h Q) : xP G YX5_fit fr lo 57 [(0, rv x0), (1, rv x1), (3, .int x3)] [] h Q := by
  unfold bX5_fit_57 at hq
  refine x_aload_n 1 dX5_fit_57 rfl ?_
  obtain ⟨g1, hq⟩ := hq
  refine x_getN (v := .int (fI h x1 1536)) gfX5_289 dX5_fit_58 g1 rfl ?_
  refine x_bipush (v := 8) dX5_fit_61 (by decide) ?_
  refine x_icmp_ne (tgt := 92) dX5_fit_63 (by decide) (fun c2 => ?_) (fun c2 => ?_)
  · replace hq := hq.1 c2
    refine xP.pick (lv' := []) [] rfl ?_
    exact uX5_fit_92 hq
  · replace hq := hq.2 c2
    refine x_aload_n 0 dX5_fit_66 rfl ?_
    obtain ⟨g3, hq⟩ := hq
    refine x_get (v := rv (fR h x0 1281)) fdX5_62 dX5_fit_67 g3 rfl ?_
    refine x_bipush (v := 65) dX5_fit_70 (by decide) ?_
    refine x_aload_n 1 dX5_fit_72 rfl ?_
    refine x_getN (v := rv (fR h x1 1538)) gfX5_286 dX5_fit_73 g1 rfl ?_
    obtain ⟨g4, hq⟩ := hq
    refine x_getN (v := .int (fI h (fR h x1 1538) 1541)) gfX5_338 dX5_fit_76 g4 rfl ?_
    refine x_aload_n 1 dX5_fit_79 rfl ?_
    refine x_getN (v := rv (fR h x1 1538)) gfX5_286 dX5_fit_80 g1 rfl ?_
    refine x_getN (v := .int (fI h (fR h x1 1538) 1542)) gfX5_335 dX5_fit_83 g4 rfl ?_
    refine x_iconst (v := 0) dX5_fit_86 (by decide) ?_
    refine x_iload_n 2 dX5_fit_87 rfl ?_
    obtain ⟨g5, hq⟩ := hq
    obtain ⟨g6, g7, hq⟩ := hq
    refine x_callV (Yc := YX2_put) (as := [.int 65, .int (fI h (fR h x1 1538) 1541), .int (fI h (fR h x1 1538) 1542), .int 0, .int x3]) (st := []) q2494 mvX2_put g5 rfl dX5_fit_88 (xle (xal1 (rv_cat _) (xal1 rfl (xal1 rfl (xal1 rfl (xal1 rfl (xal1 rfl xal0)))))) (by decide)) (xfr g6) (xlo xsw0 (by decide) g7) (xKi hq (fun x9 h8 hq e10 => ?_) (fun _ _ q _ => q))
    replace hq := hq e10
    refine x_pop dX5_fit_91 rfl ?_
    refine xP.pick (lv' := []) [] rfl ?_
    exact uX5_fit_92 hq
set_option maxRecDepth 100000 in
def bX5_fit_29 (G : xG) (fr lo : Nat) (x0 : Nat) (x1 : Nat) (x3 : Int32) (h : xH) (Q : Outcome → xH → Prop) : Prop := tg h x1 = 7 ∧ ((¬ (fI h x1 1536) = 5 → bX5_fit_57 G fr lo x0 x1 x3 h Q) ∧ ((fI h x1 1536) = 5 → tg h x0 = 6 ∧ tg h (fR h x0 1281) = 3 ∧ 1 ≤ fr ∧ 17 ≤ lo ∧ xRi G YX2_put (fr - 1) (lo - 17) [rv (fR h x0 1281), .int 64, .int (fI h x1 1541), .int (fI h x1 1542), .int 0, .int x3] h (fun x8 h7 => xext h h7 → bX5_fit_57 G fr lo x0 x1 x3 h7 Q) (fun r h2 => Q (.threw r) h2)))
set_option maxRecDepth 100000 in
theorem uX5_fit_29 {G : xG} {fr lo : Nat} {x0 : Nat} {x1 : Nat} {x3 : Int32} {h : xH} {Q : Outcome → xH → Prop} (hq : bX5_fit_29 G fr lo x0 x1 x3 h Q) : xP G YX5_fit fr lo 29 [(0, rv x0), (1, rv x1), (3, .int x3)] [] h Q := by
  unfold bX5_fit_29 at hq
  refine x_aload_n 1 dX5_fit_29 rfl ?_
  obtain ⟨g1, hq⟩ := hq
  refine x_getN (v := .int (fI h x1 1536)) gfX5_289 dX5_fit_30 g1 rfl ?_
  refine x_iconst (v := 5) dX5_fit_33 (by decide) ?_
  refine x_icmp_ne (tgt := 57) dX5_fit_34 (by decide) (fun c2 => ?_) (fun c2 => ?_)
  · replace hq := hq.1 c2
    exact uX5_fit_57 hq
  · replace hq := hq.2 c2
    refine x_aload_n 0 dX5_fit_37 rfl ?_
    obtain ⟨g3, hq⟩ := hq
    refine x_get (v := rv (fR h x0 1281)) fdX5_62 dX5_fit_38 g3 rfl ?_
    refine x_bipush (v := 64) dX5_fit_41 (by decide) ?_
    refine x_aload_n 1 dX5_fit_43 rfl ?_
    refine x_getN (v := .int (fI h x1 1541)) gfX5_338 dX5_fit_44 g1 rfl ?_
    refine x_aload_n 1 dX5_fit_47 rfl ?_
    refine x_getN (v := .int (fI h x1 1542)) gfX5_335 dX5_fit_48 g1 rfl ?_
    refine x_iconst (v := 0) dX5_fit_51 (by decide) ?_
    refine x_iload_n 2 dX5_fit_52 rfl ?_
    obtain ⟨g4, hq⟩ := hq
    obtain ⟨g5, g6, hq⟩ := hq
    refine x_callV (Yc := YX2_put) (as := [.int 64, .int (fI h x1 1541), .int (fI h x1 1542), .int 0, .int x3]) (st := []) q2494 mvX2_put g4 rfl dX5_fit_53 (xle (xal1 (rv_cat _) (xal1 rfl (xal1 rfl (xal1 rfl (xal1 rfl (xal1 rfl xal0)))))) (by decide)) (xfr g5) (xlo xsw0 (by decide) g6) (xKi hq (fun x8 h7 hq e9 => ?_) (fun _ _ q _ => q))
    replace hq := hq e9
    refine x_pop dX5_fit_56 rfl ?_
    exact uX5_fit_57 hq
set_option maxRecDepth 100000 in
def bX5_fit (G : xG) (fr lo : Nat) (x0 : Nat) (x1 : Nat) (x2 : Nat) (x3 : Int32) (h : xH) (Q : Outcome → xH → Prop) : Prop := tg h x1 = 7 ∧ ((¬ (fI h x1 1536) = 1 → bX5_fit_29 G fr lo x0 x1 x3 h Q) ∧ ((fI h x1 1536) = 1 → tg h x2 = 7 ∧ ((¬ (fI h x2 1536) = 0 → bX5_fit_29 G fr lo x0 x1 x3 h Q) ∧ ((fI h x2 1536) = 0 → tg h x0 = 6 ∧ tg h (fR h x0 1281) = 3 ∧ 1 ≤ fr ∧ 17 ≤ lo ∧ xRi G YX2_put (fr - 1) (lo - 17) [rv (fR h x0 1281), .int 31, .int 0, .int 0, .int 0, .int 0] h (fun x10 h9 => xext h h9 → bX5_fit_29 G fr lo x0 x1 x3 h9 Q) (fun r h2 => Q (.threw r) h2)))))
set_option maxRecDepth 100000 in
theorem uX5_fit {G : xG} {fr lo : Nat} {x0 : Nat} {x1 : Nat} {x2 : Nat} {x3 : Int32} {h : xH} {Q : Outcome → xH → Prop} (hq : bX5_fit G fr lo x0 x1 x2 x3 h Q) : xP G YX5_fit fr lo 0 [(0, rv x0), (1, rv x1), (2, rv x2), (3, .int x3)] [] h Q := by
  unfold bX5_fit at hq
  refine x_aload_n 1 dX5_fit_0 rfl ?_
  obtain ⟨g1, hq⟩ := hq
  refine x_getN (v := .int (fI h x1 1536)) gfX5_289 dX5_fit_1 g1 rfl ?_
  refine x_iconst (v := 1) dX5_fit_4 (by decide) ?_
  refine x_icmp_ne (tgt := 29) dX5_fit_5 (by decide) (fun c2 => ?_) (fun c2 => ?_)
  · replace hq := hq.1 c2
    refine xP.pick (lv' := [(0, rv x0), (1, rv x1), (3, .int x3)]) [0, 1, 3] rfl ?_
    exact uX5_fit_29 hq
  · replace hq := hq.2 c2
    refine x_aload_n 2 dX5_fit_8 rfl ?_
    obtain ⟨g3, hq⟩ := hq
    refine x_getN (v := .int (fI h x2 1536)) gfX5_289 dX5_fit_9 g3 rfl ?_
    refine x_if_ne (tgt := 29) dX5_fit_12 (by decide) (fun c4 => ?_) (fun c4 => ?_)
    · replace hq := hq.1 c4
      refine xP.pick (lv' := [(0, rv x0), (1, rv x1), (3, .int x3)]) [0, 1, 3] rfl ?_
      exact uX5_fit_29 hq
    · replace hq := hq.2 c4
      refine x_aload_n 0 dX5_fit_15 rfl ?_
      obtain ⟨g5, hq⟩ := hq
      refine x_get (v := rv (fR h x0 1281)) fdX5_62 dX5_fit_16 g5 rfl ?_
      refine x_bipush (v := 31) dX5_fit_19 (by decide) ?_
      refine x_iconst (v := 0) dX5_fit_21 (by decide) ?_
      refine x_iconst (v := 0) dX5_fit_22 (by decide) ?_
      refine x_iconst (v := 0) dX5_fit_23 (by decide) ?_
      refine x_iconst (v := 0) dX5_fit_24 (by decide) ?_
      obtain ⟨g6, hq⟩ := hq
      obtain ⟨g7, g8, hq⟩ := hq
      refine x_callV (Yc := YX2_put) (as := [.int 31, .int 0, .int 0, .int 0, .int 0]) (st := []) q2494 mvX2_put g6 rfl dX5_fit_25 (xle (xal1 (rv_cat _) (xal1 rfl (xal1 rfl (xal1 rfl (xal1 rfl (xal1 rfl xal0)))))) (by decide)) (xfr g7) (xlo xsw0 (by decide) g8) (xKi hq (fun x10 h9 hq e11 => ?_) (fun _ _ q _ => q))
      replace hq := hq e11
      refine x_pop dX5_fit_28 rfl ?_
      refine xP.pick (lv' := [(0, rv x0), (1, rv x1), (3, .int x3)]) [0, 1, 3] rfl ?_
      exact uX5_fit_29 hq
theorem rX5_fit {G : xG} {fr lo : Nat} {x0 : Nat} {x1 : Nat} {x2 : Nat} {x3 : Int32} {h : xH} {Q : Outcome → xH → Prop} (hq : bX5_fit G fr lo x0 x1 x2 x3 h Q) : xR G YX5_fit fr lo [rv x0, rv x1, rv x2, .int x3] h Q := by
  show xP _ _ _ _ _ (lv_args 0 _) _ _ _
  rw [show lv_args 0 [rv x0, rv x1, rv x2, .int x3] = [(0, rv x0), (1, rv x1), (2, rv x2), (3, .int x3)] from (xla1 (rv_cat _) (xla1 (rv_cat _) (xla1 (rv_cat _) (xla1 rfl xla0))))]
  exact uX5_fit hq
set_option maxRecDepth 100000 in
theorem dX5_variable_0 : decode cX5_variable 0 = .ok (.aload_n 1, 1) := by decide +kernel
set_option maxRecDepth 100000 in
theorem dX5_variable_1 : decode cX5_variable 1 = .ok (.getfield 264, 3) := by decide +kernel
set_option maxRecDepth 100000 in
theorem dX5_variable_4 : decode cX5_variable 4 = .ok (.bipush 58, 2) := by decide +kernel
set_option maxRecDepth 100000 in
theorem dX5_variable_6 : decode cX5_variable 6 = .ok (.if_icmp .eq 15, 3) := by decide +kernel
set_option maxRecDepth 100000 in
theorem dX5_variable_9 : decode cX5_variable 9 = .ok (.aload_n 0, 1) := by decide +kernel
set_option maxRecDepth 100000 in
theorem dX5_variable_10 : decode cX5_variable 10 = .ok (.bipush 6, 2) := by decide +kernel
set_option maxRecDepth 100000 in
theorem dX5_variable_12 : decode cX5_variable 12 = .ok (.aload_n 0, 1) := by decide +kernel
set_option maxRecDepth 100000 in
theorem dX5_variable_13 : decode cX5_variable 13 = .ok (.aload_n 1, 1) := by decide +kernel
set_option maxRecDepth 100000 in
theorem dX5_variable_14 : decode cX5_variable 14 = .ok (.invokevirtual 624, 3) := by decide +kernel
set_option maxRecDepth 100000 in
theorem dX5_variable_17 : decode cX5_variable 17 = .ok (.invokevirtual 163, 3) := by decide +kernel
set_option maxRecDepth 100000 in
theorem dX5_variable_20 : decode cX5_variable 20 = .ok (.athrow, 1) := by decide +kernel
set_option maxRecDepth 100000 in
theorem dX5_variable_21 : decode cX5_variable 21 = .ok (.aload_n 0, 1) := by decide +kernel
set_option maxRecDepth 100000 in
theorem dX5_variable_22 : decode cX5_variable 22 = .ok (.aload_n 1, 1) := by decide +kernel
set_option maxRecDepth 100000 in
theorem dX5_variable_23 : decode cX5_variable 23 = .ok (.invokevirtual 195, 3) := by decide +kernel
set_option maxRecDepth 100000 in
theorem dX5_variable_26 : decode cX5_variable 26 = .ok (.astore_n 2, 1) := by decide +kernel
set_option maxRecDepth 100000 in
theorem dX5_variable_27 : decode cX5_variable 27 = .ok (.aload_n 0, 1) := by decide +kernel
set_option maxRecDepth 100000 in
theorem dX5_variable_28 : decode cX5_variable 28 = .ok (.getfield 166, 3) := by decide +kernel
set_option maxRecDepth 100000 in
theorem dX5_variable_31 : decode cX5_variable 31 = .ok (.astore_n 3, 1) := by decide +kernel
set_option maxRecDepth 100000 in
theorem dX5_variable_32 : decode cX5_variable 32 = .ok (.aload_n 2, 1) := by decide +kernel
set_option maxRecDepth 100000 in
theorem dX5_variable_33 : decode cX5_variable 33 = .ok (.getfield 199, 3) := by decide +kernel
set_option maxRecDepth 100000 in
theorem dX5_variable_36 : decode cX5_variable 36 = .ok (.iconst 2, 1) := by decide +kernel
set_option maxRecDepth 100000 in
theorem dX5_variable_37 : decode cX5_variable 37 = .ok (.if_icmp .eq 22, 3) := by decide +kernel
set_option maxRecDepth 100000 in
theorem dX5_variable_40 : decode cX5_variable 40 = .ok (.aload_n 2, 1) := by decide +kernel
set_option maxRecDepth 100000 in
theorem dX5_variable_41 : decode cX5_variable 41 = .ok (.getfield 199, 3) := by decide +kernel
set_option maxRecDepth 100000 in
theorem dX5_variable_44 : decode cX5_variable 44 = .ok (.iconst 5, 1) := by decide +kernel
set_option maxRecDepth 100000 in
theorem dX5_variable_45 : decode cX5_variable 45 = .ok (.if_icmp .eq 14, 3) := by decide +kernel
set_option maxRecDepth 100000 in
theorem dX5_variable_48 : decode cX5_variable 48 = .ok (.aload_n 0, 1) := by decide +kernel
set_option maxRecDepth 100000 in
theorem dX5_variable_49 : decode cX5_variable 49 = .ok (.bipush 6, 2) := by decide +kernel
set_option maxRecDepth 100000 in
theorem dX5_variable_51 : decode cX5_variable 51 = .ok (.aload_n 1, 1) := by decide +kernel
set_option maxRecDepth 100000 in
theorem dX5_variable_52 : decode cX5_variable 52 = .ok (.invokevirtual 192, 3) := by decide +kernel
set_option maxRecDepth 100000 in
theorem dX5_variable_55 : decode cX5_variable 55 = .ok (.invokevirtual 163, 3) := by decide +kernel
set_option maxRecDepth 100000 in
theorem dX5_variable_58 : decode cX5_variable 58 = .ok (.athrow, 1) := by decide +kernel
set_option maxRecDepth 100000 in
theorem dX5_variable_59 : decode cX5_variable 59 = .ok (.aload_n 0, 1) := by decide +kernel
set_option maxRecDepth 100000 in
theorem dX5_variable_60 : decode cX5_variable 60 = .ok (.aconst_null, 1) := by decide +kernel
set_option maxRecDepth 100000 in
theorem dX5_variable_61 : decode cX5_variable 61 = .ok (.putfield 702, 3) := by decide +kernel
set_option maxRecDepth 100000 in
theorem dX5_variable_64 : decode cX5_variable 64 = .ok (.aload_n 2, 1) := by decide +kernel
set_option maxRecDepth 100000 in
theorem dX5_variable_65 : decode cX5_variable 65 = .ok (.getfield 249, 3) := by decide +kernel
set_option maxRecDepth 100000 in
theorem dX5_variable_68 : decode cX5_variable 68 = .ok (.astore 4, 2) := by decide +kernel
set_option maxRecDepth 100000 in
theorem dX5_variable_70 : decode cX5_variable 70 = .ok (.aload_n 2, 1) := by decide +kernel
set_option maxRecDepth 100000 in
theorem dX5_variable_71 : decode cX5_variable 71 = .ok (.getfield 199, 3) := by decide +kernel
set_option maxRecDepth 100000 in
theorem dX5_variable_74 : decode cX5_variable 74 = .ok (.iconst 2, 1) := by decide +kernel
set_option maxRecDepth 100000 in
theorem dX5_variable_75 : decode cX5_variable 75 = .ok (.if_icmp .ne 11, 3) := by decide +kernel
set_option maxRecDepth 100000 in
theorem dX5_variable_78 : decode cX5_variable 78 = .ok (.aload_n 0, 1) := by decide +kernel
set_option maxRecDepth 100000 in
theorem dX5_variable_79 : decode cX5_variable 79 = .ok (.aload_n 2, 1) := by decide +kernel
set_option maxRecDepth 100000 in
theorem dX5_variable_80 : decode cX5_variable 80 = .ok (.invokevirtual 674, 3) := by decide +kernel
set_option maxRecDepth 100000 in
theorem dX5_variable_83 : decode cX5_variable 83 = .ok (.goto 34, 3) := by decide +kernel
set_option maxRecDepth 100000 in
theorem dX5_variable_86 : decode cX5_variable 86 = .ok (.aload_n 0, 1) := by decide +kernel
set_option maxRecDepth 100000 in
theorem dX5_variable_87 : decode cX5_variable 87 = .ok (.getfield 62, 3) := by decide +kernel
set_option maxRecDepth 100000 in
theorem dX5_variable_90 : decode cX5_variable 90 = .ok (.bipush 57, 2) := by decide +kernel
set_option maxRecDepth 100000 in
theorem dX5_variable_92 : decode cX5_variable 92 = .ok (.aload_n 0, 1) := by decide +kernel
set_option maxRecDepth 100000 in
theorem dX5_variable_93 : decode cX5_variable 93 = .ok (.getfield 181, 3) := by decide +kernel
set_option maxRecDepth 100000 in
theorem dX5_variable_96 : decode cX5_variable 96 = .ok (.getfield 691, 3) := by decide +kernel
set_option maxRecDepth 100000 in
theorem dX5_variable_99 : decode cX5_variable 99 = .ok (.iconst 0, 1) := by decide +kernel
set_option maxRecDepth 100000 in
theorem dX5_variable_100 : decode cX5_variable 100 = .ok (.iconst 0, 1) := by decide +kernel
set_option maxRecDepth 100000 in
theorem dX5_variable_101 : decode cX5_variable 101 = .ok (.iconst 0, 1) := by decide +kernel
set_option maxRecDepth 100000 in
theorem dX5_variable_102 : decode cX5_variable 102 = .ok (.invokevirtual 506, 3) := by decide +kernel
set_option maxRecDepth 100000 in
theorem dX5_variable_105 : decode cX5_variable 105 = .ok (.pop, 1) := by decide +kernel
set_option maxRecDepth 100000 in
theorem dX5_variable_106 : decode cX5_variable 106 = .ok (.aload_n 0, 1) := by decide +kernel
set_option maxRecDepth 100000 in
theorem dX5_variable_107 : decode cX5_variable 107 = .ok (.aload_n 3, 1) := by decide +kernel
set_option maxRecDepth 100000 in
theorem dX5_variable_108 : decode cX5_variable 108 = .ok (.aload_n 1, 1) := by decide +kernel
set_option maxRecDepth 100000 in
theorem dX5_variable_109 : decode cX5_variable 109 = .ok (.invokevirtual 192, 3) := by decide +kernel
set_option maxRecDepth 100000 in
theorem dX5_variable_112 : decode cX5_variable 112 = .ok (.invokevirtual 732, 3) := by decide +kernel
set_option maxRecDepth 100000 in
theorem dX5_variable_115 : decode cX5_variable 115 = .ok (.astore 4, 2) := by decide +kernel
set_option maxRecDepth 100000 in
theorem dX5_variable_117 : decode cX5_variable 117 = .ok (.aload_n 1, 1) := by decide +kernel
set_option maxRecDepth 100000 in
theorem dX5_variable_118 : decode cX5_variable 118 = .ok (.getfield 251, 3) := by decide +kernel
set_option maxRecDepth 100000 in
theorem dX5_variable_121 : decode cX5_variable 121 = .ok (.astore 5, 2) := by decide +kernel
set_option maxRecDepth 100000 in
theorem dX5_variable_123 : decode cX5_variable 123 = .ok (.aload 5, 2) := by decide +kernel
set_option maxRecDepth 100000 in
theorem dX5_variable_125 : decode cX5_variable 125 = .ok (.ifnull 23, 3) := by decide +kernel
set_option maxRecDepth 100000 in
theorem dX5_variable_128 : decode cX5_variable 128 = .ok (.aload_n 0, 1) := by decide +kernel
set_option maxRecDepth 100000 in
theorem dX5_variable_129 : decode cX5_variable 129 = .ok (.aload 4, 2) := by decide +kernel
set_option maxRecDepth 100000 in
theorem dX5_variable_131 : decode cX5_variable 131 = .ok (.aload 5, 2) := by decide +kernel
set_option maxRecDepth 100000 in
theorem dX5_variable_133 : decode cX5_variable 133 = .ok (.invokevirtual 736, 3) := by decide +kernel
set_option maxRecDepth 100000 in
theorem dX5_variable_136 : decode cX5_variable 136 = .ok (.astore 4, 2) := by decide +kernel
set_option maxRecDepth 100000 in
theorem dX5_variable_138 : decode cX5_variable 138 = .ok (.aload 5, 2) := by decide +kernel
set_option maxRecDepth 100000 in
theorem dX5_variable_140 : decode cX5_variable 140 = .ok (.getfield 307, 3) := by decide +kernel
set_option maxRecDepth 100000 in
theorem dX5_variable_143 : decode cX5_variable 143 = .ok (.astore 5, 2) := by decide +kernel
set_option maxRecDepth 100000 in
theorem dX5_variable_145 : decode cX5_variable 145 = .ok (.goto (-22), 3) := by decide +kernel
set_option maxRecDepth 100000 in
theorem dX5_variable_148 : decode cX5_variable 148 = .ok (.aload_n 0, 1) := by decide +kernel
set_option maxRecDepth 100000 in
theorem dX5_variable_149 : decode cX5_variable 149 = .ok (.aload_n 1, 1) := by decide +kernel
set_option maxRecDepth 100000 in
theorem dX5_variable_150 : decode cX5_variable 150 = .ok (.getfield 293, 3) := by decide +kernel
set_option maxRecDepth 100000 in
theorem dX5_variable_153 : decode cX5_variable 153 = .ok (.ifCond .ne 15, 3) := by decide +kernel
set_option maxRecDepth 100000 in
theorem dX5_variable_156 : decode cX5_variable 156 = .ok (.aload_n 2, 1) := by decide +kernel
set_option maxRecDepth 100000 in
theorem dX5_variable_157 : decode cX5_variable 157 = .ok (.getfield 199, 3) := by decide +kernel
set_option maxRecDepth 100000 in
theorem dX5_variable_160 : decode cX5_variable 160 = .ok (.iconst 2, 1) := by decide +kernel
set_option maxRecDepth 100000 in
theorem dX5_variable_161 : decode cX5_variable 161 = .ok (.if_icmp .ne 7, 3) := by decide +kernel
set_option maxRecDepth 100000 in
theorem dX5_variable_164 : decode cX5_variable 164 = .ok (.aload_n 2, 1) := by decide +kernel
set_option maxRecDepth 100000 in
theorem dX5_variable_165 : decode cX5_variable 165 = .ok (.goto 4, 3) := by decide +kernel
set_option maxRecDepth 100000 in
theorem dX5_variable_168 : decode cX5_variable 168 = .ok (.aconst_null, 1) := by decide +kernel
set_option maxRecDepth 100000 in
theorem dX5_variable_169 : decode cX5_variable 169 = .ok (.putfield 705, 3) := by decide +kernel
set_option maxRecDepth 100000 in
theorem dX5_variable_172 : decode cX5_variable 172 = .ok (.aload 4, 2) := by decide +kernel
set_option maxRecDepth 100000 in
theorem dX5_variable_174 : decode cX5_variable 174 = .ok (.areturn, 1) := by decide +kernel
def lX5_variable_123 (G : xG) (fr lo : Nat) (x0 : Nat) (x1 : Nat) (x2 : Nat) (x4 : Nat) (x5 : Nat) (h : xH) (Q : Outcome → xH → Prop) : Prop := xP G YX5_variable fr lo 123 [(0, rv x0), (1, rv x1), (2, rv x2), (4, rv x4), (5, rv x5)] [] h Q
set_option maxRecDepth 100000 in
def bX5_variable_169 (G : xG) (fr lo : Nat) (x4 : Nat) (s0 : Nat) (s1 : Nat) (h : xH) (Q : Outcome → xH → Prop) : Prop := tg h s1 = 6 ∧ (∀ h2 : xH, h2 = sR h s1 1301 s0 → Q (.returned (some (rv x4))) h2)
set_option maxRecDepth 100000 in
theorem uX5_variable_169 {G : xG} {fr lo : Nat} {x4 : Nat} {s0 : Nat} {s1 : Nat} {h : xH} {Q : Outcome → xH → Prop} (hq : bX5_variable_169 G fr lo x4 s0 s1 h Q) : xP G YX5_variable fr lo 169 [(4, rv x4)] [rv s0, rv s1] h Q := by
  unfold bX5_variable_169 at hq
  obtain ⟨g1, hq⟩ := hq
  obtain ⟨h2, e3⟩ : ∃ y, y = sR h s1 1301 s0 := ⟨_, rfl⟩
  replace hq := hq h2 e3
  refine x_putR fdX5_705 xty_O dX5_variable_169 g1 (Or.inl (by rw [g1]; rfl)) rfl e3 ?_
  refine x_aload 0 dX5_variable_172 rfl ?_
  exact x_aret rfl xty_O dX5_variable_174 hq
set_option maxRecDepth 100000 in
def bX5_variable_168 (G : xG) (fr lo : Nat) (x4 : Nat) (s0 : Nat) (h : xH) (Q : Outcome → xH → Prop) : Prop := bX5_variable_169 G fr lo x4 0 s0 h Q
set_option maxRecDepth 100000 in
theorem uX5_variable_168 {G : xG} {fr lo : Nat} {x4 : Nat} {s0 : Nat} {h : xH} {Q : Outcome → xH → Prop} (hq : bX5_variable_168 G fr lo x4 s0 h Q) : xP G YX5_variable fr lo 168 [(4, rv x4)] [rv s0] h Q := by
  unfold bX5_variable_168 at hq
  refine x_null dX5_variable_168 ?_
  exact uX5_variable_169 hq
set_option maxRecDepth 100000 in
def bX5_variable_123 (G : xG) (fr lo : Nat) (x0 : Nat) (x1 : Nat) (x2 : Nat) (x4 : Nat) (x5 : Nat) (h : xH) (Q : Outcome → xH → Prop) : Prop := ((x5 = 0 → tg h x1 = 16 ∧ ((¬ (fI h x1 3845) = 0 → bX5_variable_168 G fr lo x4 x0 h Q) ∧ ((fI h x1 3845) = 0 → tg h x2 = 9 ∧ ((¬ (fI h x2 2048) = 2 → bX5_variable_168 G fr lo x4 x0 h Q) ∧ ((fI h x2 2048) = 2 → bX5_variable_169 G fr lo x4 x2 x0 h Q))))) ∧ (¬ x5 = 0 → tg h x0 = 6 ∧ 1 ≤ fr ∧ 15 ≤ lo ∧ xRr G YX5_selected (fr - 1) (lo - 15) [rv x0, rv x4, rv x5] h (fun x10 h9 => xext h h9 → tg h9 x5 = 16 ∧ lX5_variable_123 G fr lo x0 x1 x2 x10 (fR h9 x5 3844) h9 Q) (fun r h2 => Q (.threw r) h2)))
set_option maxRecDepth 100000 in
theorem uX5_variable_123 {G : xG} {fr lo : Nat} {x0 : Nat} {x1 : Nat} {x2 : Nat} {x4 : Nat} {x5 : Nat} {h : xH} {Q : Outcome → xH → Prop} (hq : bX5_variable_123 G fr lo x0 x1 x2 x4 x5 h Q) : xP G YX5_variable fr lo 123 [(0, rv x0), (1, rv x1), (2, rv x2), (4, rv x4), (5, rv x5)] [] h Q := by
  unfold bX5_variable_123 at hq
  refine x_aload 4 dX5_variable_123 rfl ?_
  refine x_ifnull (tgt := 148) dX5_variable_125 (by decide) (fun c1 => ?_) (fun c1 => ?_)
  · replace hq := hq.1 c1
    refine x_aload_n 0 dX5_variable_148 rfl ?_
    refine x_aload_n 1 dX5_variable_149 rfl ?_
    obtain ⟨g2, hq⟩ := hq
    refine x_getN (v := .int (fI h x1 3845)) gfX5_293 dX5_variable_150 g2 rfl ?_
    refine x_if_ne (tgt := 168) dX5_variable_153 (by decide) (fun c3 => ?_) (fun c3 => ?_)
    · replace hq := hq.1 c3
      refine xP.pick (lv' := [(4, rv x4)]) [3] rfl ?_
      exact uX5_variable_168 hq
    · replace hq := hq.2 c3
      refine x_aload_n 2 dX5_variable_156 rfl ?_
      obtain ⟨g4, hq⟩ := hq
      refine x_getN (v := .int (fI h x2 2048)) gfX5_199 dX5_variable_157 g4 rfl ?_
      refine x_iconst (v := 2) dX5_variable_160 (by decide) ?_
      refine x_icmp_ne (tgt := 168) dX5_variable_161 (by decide) (fun c5 => ?_) (fun c5 => ?_)
      · replace hq := hq.1 c5
        refine xP.pick (lv' := [(4, rv x4)]) [3] rfl ?_
        exact uX5_variable_168 hq
      · replace hq := hq.2 c5
        refine x_aload_n 2 dX5_variable_164 rfl ?_
        refine x_goto (tgt := 169) dX5_variable_165 (by decide) ?_
        refine xP.pick (lv' := [(4, rv x4)]) [3] rfl ?_
        exact uX5_variable_169 hq
  · replace hq := hq.2 c1
    refine x_aload_n 0 dX5_variable_128 rfl ?_
    refine x_aload 3 dX5_variable_129 rfl ?_
    refine x_aload 4 dX5_variable_131 rfl ?_
    obtain ⟨g6, hq⟩ := hq
    obtain ⟨g7, g8, hq⟩ := hq
    refine x_callV (Yc := YX5_selected) (as := [rv x4, rv x5]) (st := []) q2610 mvX5_selected g6 rfl dX5_variable_133 (xle (xal1 (rv_cat _) (xal1 (rv_cat _) (xal1 (rv_cat _) xal0))) (by decide)) (xfr g7) (xlo xsw0 (by decide) g8) (xKr hq (fun x10 h9 hq e11 => ?_) (fun _ _ q _ => q))
    replace hq := hq e11
    refine x_astore (lv' := [(4, rv x10), (0, rv x0), (1, rv x1), (2, rv x2), (5, rv x5)]) dX5_variable_136 (by decide) rfl ?_
    refine x_aload 4 dX5_variable_138 rfl ?_
    obtain ⟨g12, hq⟩ := hq
    refine x_getN (v := rv (fR h9 x5 3844)) gfX5_307 dX5_variable_140 g12 rfl ?_
    refine x_astore (lv' := [(5, rv (fR h9 x5 3844)), (4, rv x10), (0, rv x0), (1, rv x1), (2, rv x2)]) dX5_variable_143 (by decide) (by first | rfl | (simp [rv_cat, Value.category]; done) | (simp [rv_cat, Value.category]; decide)) ?_
    refine x_goto (tgt := 123) dX5_variable_145 (by decide) ?_
    refine xP.pick (lv' := [(0, rv x0), (1, rv x1), (2, rv x2), (4, rv x10), (5, rv (fR h9 x5 3844))]) [2, 3, 4, 1, 0] rfl ?_
    exact hq
set_option maxRecDepth 100000 in
def bX5_variable_117 (G : xG) (fr lo : Nat) (x0 : Nat) (x1 : Nat) (x2 : Nat) (x4 : Nat) (h : xH) (Q : Outcome → xH → Prop) : Prop := tg h x1 = 16 ∧ lX5_variable_123 G fr lo x0 x1 x2 x4 (fR h x1 3842) h Q
set_option maxRecDepth 100000 in
theorem uX5_variable_117 {G : xG} {fr lo : Nat} {x0 : Nat} {x1 : Nat} {x2 : Nat} {x4 : Nat} {h : xH} {Q : Outcome → xH → Prop} (hq : bX5_variable_117 G fr lo x0 x1 x2 x4 h Q) : xP G YX5_variable fr lo 117 [(0, rv x0), (1, rv x1), (2, rv x2), (4, rv x4)] [] h Q := by
  unfold bX5_variable_117 at hq
  refine x_aload_n 1 dX5_variable_117 rfl ?_
  obtain ⟨g1, hq⟩ := hq
  refine x_getN (v := rv (fR h x1 3842)) gfX5_251 dX5_variable_118 g1 rfl ?_
  refine x_astore (lv' := [(5, rv (fR h x1 3842)), (0, rv x0), (1, rv x1), (2, rv x2), (4, rv x4)]) dX5_variable_121 (by decide) (by first | rfl | (simp [rv_cat, Value.category]; done) | (simp [rv_cat, Value.category]; decide)) ?_
  refine xP.pick (lv' := [(0, rv x0), (1, rv x1), (2, rv x2), (4, rv x4), (5, rv (fR h x1 3842))]) [1, 2, 3, 4, 0] rfl ?_
  exact hq
set_option maxRecDepth 100000 in
def bX5_variable_59 (G : xG) (fr lo : Nat) (x0 : Nat) (x1 : Nat) (x2 : Nat) (x3 : Nat) (h : xH) (Q : Outcome → xH → Prop) : Prop := tg h x0 = 6 ∧ (∀ h2 : xH, h2 = sR h x0 1302 0 → tg h2 x2 = 9 ∧ ((¬ (fI h2 x2 2048) = 2 → tg h2 (fR h2 x0 1300) = 8 ∧ tg h2 (fR h2 x0 1281) = 3 ∧ 1 ≤ fr ∧ 17 ≤ lo ∧ xRi G YX2_put (fr - 1) (lo - 17) [rv (fR h2 x0 1281), .int 57, .int (fI h2 (fR h2 x0 1300) 1795), .int 0, .int 0, .int 0] h2 (fun x12 h11 => xext h2 h11 → tg h11 x1 = 16 ∧ 1 ≤ fr ∧ 14 ≤ lo ∧ xRi G YX15_place (fr - 1) (lo - 14) [rv x1] h11 (fun x18 h17 => xext h11 h17 → 1 ≤ fr ∧ 14 ≤ lo ∧ xRr G YX5_fieldOf (fr - 1) (lo - 14) [rv x0, rv x3, .int x18] h17 (fun x25 h24 => xext h17 h24 → bX5_variable_117 G fr lo x0 x1 x2 x25 h24 Q) (fun r h2 => Q (.threw r) h2)) (fun r h2 => Q (.threw r) h2)) (fun r h2 => Q (.threw r) h2)) ∧ ((fI h2 x2 2048) = 2 → 1 ≤ fr ∧ 13 ≤ lo ∧ xRv G YX5_address (fr - 1) (lo - 13) [rv x0, rv x2] h2 (fun h30 => xext h2 h30 → bX5_variable_117 G fr lo x0 x1 x2 (fR h2 x2 2050) h30 Q) (fun r h2 => Q (.threw r) h2))))
set_option maxRecDepth 100000 in
theorem uX5_variable_59 {G : xG} {fr lo : Nat} {x0 : Nat} {x1 : Nat} {x2 : Nat} {x3 : Nat} {h : xH} {Q : Outcome → xH → Prop} (hq : bX5_variable_59 G fr lo x0 x1 x2 x3 h Q) : xP G YX5_variable fr lo 59 [(0, rv x0), (1, rv x1), (2, rv x2), (3, rv x3)] [] h Q := by
  unfold bX5_variable_59 at hq
  refine x_aload_n 0 dX5_variable_59 rfl ?_
  refine x_null dX5_variable_60 ?_
  obtain ⟨g1, hq⟩ := hq
  obtain ⟨h2, e3⟩ : ∃ y, y = sR h x0 1302 0 := ⟨_, rfl⟩
  replace hq := hq h2 e3
  refine x_putR fdX5_702 xty_O dX5_variable_61 g1 (Or.inl (by rw [g1]; rfl)) rfl e3 ?_
  refine x_aload_n 2 dX5_variable_64 rfl ?_
  obtain ⟨g4, hq⟩ := hq
  refine x_getN (v := rv (fR h2 x2 2050)) gfX5_249 dX5_variable_65 g4 rfl ?_
  refine x_astore (lv' := [(4, rv (fR h2 x2 2050)), (0, rv x0), (1, rv x1), (2, rv x2), (3, rv x3)]) dX5_variable_68 (by decide) (by first | rfl | (simp [rv_cat, Value.category]; done) | (simp [rv_cat, Value.category]; decide)) ?_
  refine x_aload_n 3 dX5_variable_70 rfl ?_
  refine x_getN (v := .int (fI h2 x2 2048)) gfX5_199 dX5_variable_71 g4 rfl ?_
  refine x_iconst (v := 2) dX5_variable_74 (by decide) ?_
  refine x_icmp_ne (tgt := 86) dX5_variable_75 (by decide) (fun c5 => ?_) (fun c5 => ?_)
  · replace hq := hq.1 c5
    refine x_aload_n 1 dX5_variable_86 rfl ?_
    have t6 : tg h2 x0 = 6 := by rw [e3]; exact g1
    refine x_get (v := rv (fR h2 x0 1281)) fdX5_62 dX5_variable_87 t6 rfl ?_
    refine x_bipush (v := 57) dX5_variable_90 (by decide) ?_
    refine x_aload_n 1 dX5_variable_92 rfl ?_
    refine x_get (v := rv (fR h2 x0 1300)) fdX5_181 dX5_variable_93 t6 rfl ?_
    obtain ⟨g7, hq⟩ := hq
    refine x_getN (v := .int (fI h2 (fR h2 x0 1300) 1795)) gfX5_691 dX5_variable_96 g7 rfl ?_
    refine x_iconst (v := 0) dX5_variable_99 (by decide) ?_
    refine x_iconst (v := 0) dX5_variable_100 (by decide) ?_
    refine x_iconst (v := 0) dX5_variable_101 (by decide) ?_
    obtain ⟨g8, hq⟩ := hq
    obtain ⟨g9, g10, hq⟩ := hq
    refine x_callV (Yc := YX2_put) (as := [.int 57, .int (fI h2 (fR h2 x0 1300) 1795), .int 0, .int 0, .int 0]) (st := []) q2494 mvX2_put g8 rfl dX5_variable_102 (xle (xal1 (rv_cat _) (xal1 rfl (xal1 rfl (xal1 rfl (xal1 rfl (xal1 rfl xal0)))))) (by decide)) (xfr g9) (xlo xsw0 (by decide) g10) (xKi hq (fun x12 h11 hq e13 => ?_) (fun _ _ q _ => q))
    replace hq := hq e13
    refine x_pop dX5_variable_105 rfl ?_
    refine x_aload_n 1 dX5_variable_106 rfl ?_
    refine x_aload_n 4 dX5_variable_107 rfl ?_
    refine x_aload_n 2 dX5_variable_108 rfl ?_
    obtain ⟨g14, hq⟩ := hq
    obtain ⟨g15, g16, hq⟩ := hq
    refine x_callV (Yc := YX15_place) (as := []) (st := [rv x3, rv x0]) q2013 mvX15_place g14 rfl dX5_variable_109 (xle (xal1 (rv_cat _) xal0) (by decide)) (xfr g15) (xlo (xsw1 (rv_cat _) (xsw1 (rv_cat _) xsw0)) (by decide) g16) (xKi hq (fun x18 h17 hq e19 => ?_) (fun _ _ q _ => q))
    replace hq := hq e19
    have t20 : tg h11 x0 = 6 := e13.tg t6 (by decide)
    have t21 : tg h17 x0 = 6 := e19.tg t20 (by decide)
    obtain ⟨g22, g23, hq⟩ := hq
    refine x_callV (Yc := YX5_fieldOf) (as := [rv x3, .int x18]) (st := []) q2598 mvX5_fieldOf t21 rfl dX5_variable_112 (xle (xal1 (rv_cat _) (xal1 (rv_cat _) (xal1 rfl xal0))) (by decide)) (xfr g22) (xlo xsw0 (by decide) g23) (xKr hq (fun x25 h24 hq e26 => ?_) (fun _ _ q _ => q))
    replace hq := hq e26
    refine x_astore (lv' := [(4, rv x25), (0, rv x0), (1, rv x1), (2, rv x2), (3, rv x3)]) dX5_variable_115 (by decide) (by first | rfl | (simp [rv_cat, Value.category]; done) | (simp [rv_cat, Value.category]; decide)) ?_
    refine xP.pick (lv' := [(0, rv x0), (1, rv x1), (2, rv x2), (4, rv x25)]) [1, 2, 3, 0] rfl ?_
    exact uX5_variable_117 hq
  · replace hq := hq.2 c5
    refine x_aload_n 1 dX5_variable_78 rfl ?_
    refine x_aload_n 3 dX5_variable_79 rfl ?_
    have t27 : tg h2 x0 = 6 := by rw [e3]; exact g1
    obtain ⟨g28, g29, hq⟩ := hq
    refine x_callV (Yc := YX5_address) (as := [rv x2]) (st := []) q2594 mvX5_address t27 rfl dX5_variable_80 (xle (xal1 (rv_cat _) (xal1 (rv_cat _) xal0)) (by decide)) (xfr g28) (xlo xsw0 (by decide) g29) (xKv hq (fun h30 hq e32 => ?_) (fun _ _ q _ => q))
    replace hq := hq e32
    refine x_goto (tgt := 117) dX5_variable_83 (by decide) ?_
    refine xP.pick (lv' := [(0, rv x0), (1, rv x1), (2, rv x2), (4, rv (fR h2 x2 2050))]) [1, 2, 3, 0] rfl ?_
    exact uX5_variable_117 hq
set_option maxRecDepth 100000 in
def bX5_variable (G : xG) (fr lo : Nat) (x0 : Nat) (x1 : Nat) (h : xH) (Q : Outcome → xH → Prop) : Prop := tg h x1 = 16 ∧ (((fI h x1 3840) = 58 → tg h x0 = 6 ∧ 1 ≤ fr ∧ 15 ≤ lo ∧ xRr G YX5_find (fr - 1) (lo - 15) [rv x0, rv x1] h (fun x7 h6 => xext h h6 → tg h6 x7 = 9 ∧ (((fI h6 x7 2048) = 2 → bX5_variable_59 G fr lo x0 x1 x7 (fR h6 x0 1299) h6 Q) ∧ (¬ (fI h6 x7 2048) = 2 → (((fI h6 x7 2048) = 5 → bX5_variable_59 G fr lo x0 x1 x7 (fR h6 x0 1299) h6 Q) ∧ (¬ (fI h6 x7 2048) = 5 → 1 ≤ fr ∧ 14 ≤ lo ∧ xRi G YX15_place (fr - 1) (lo - 14) [rv x1] h6 (fun x17 h16 => xext h6 h16 → 1 ≤ fr ∧ 14 ≤ lo ∧ xRr G YX5_fault (fr - 1) (lo - 14) [rv x0, .int 6, .int x17] h16 (fun x23 h22 => xext h16 h22 → (∃ r25, x23 = r25 + 1 ∧ Q (.threw r25) h22)) (fun r h2 => Q (.threw r) h2)) (fun r h2 => Q (.threw r) h2)))))) (fun r h2 => Q (.threw r) h2)) ∧ (¬ (fI h x1 3840) = 58 → tg h x0 = 6 ∧ 1 ≤ fr ∧ 16 ≤ lo ∧ xRi G YX5_firstOf (fr - 1) (lo - 16) [rv x0, rv x1] h (fun x31 h30 => xext h h30 → 1 ≤ fr ∧ 14 ≤ lo ∧ xRr G YX5_fault (fr - 1) (lo - 14) [rv x0, .int 6, .int x31] h30 (fun x37 h36 => xext h30 h36 → (∃ r39, x37 = r39 + 1 ∧ Q (.threw r39) h36)) (fun r h2 => Q (.threw r) h2)) (fun r h2 => Q (.threw r) h2)))
set_option maxRecDepth 100000 in
theorem uX5_variable {G : xG} {fr lo : Nat} {x0 : Nat} {x1 : Nat} {h : xH} {Q : Outcome → xH → Prop} (hq : bX5_variable G fr lo x0 x1 h Q) : xP G YX5_variable fr lo 0 [(0, rv x0), (1, rv x1)] [] h Q := by
  unfold bX5_variable at hq
  refine x_aload_n 1 dX5_variable_0 rfl ?_
  obtain ⟨g1, hq⟩ := hq
  refine x_getN (v := .int (fI h x1 3840)) gfX5_264 dX5_variable_1 g1 rfl ?_
  refine x_bipush (v := 58) dX5_variable_4 (by decide) ?_
  refine x_icmp_eq (tgt := 21) dX5_variable_6 (by decide) (fun c2 => ?_) (fun c2 => ?_)
  · replace hq := hq.1 c2
    refine x_aload_n 0 dX5_variable_21 rfl ?_
    refine x_aload_n 1 dX5_variable_22 rfl ?_
    obtain ⟨g3, hq⟩ := hq
    obtain ⟨g4, g5, hq⟩ := hq
    refine x_callV (Yc := YX5_find) (as := [rv x1]) (st := []) q2246 mvX5_find g3 rfl dX5_variable_23 (xle (xal1 (rv_cat _) (xal1 (rv_cat _) xal0)) (by decide)) (xfr g4) (xlo xsw0 (by decide) g5) (xKr hq (fun x7 h6 hq e8 => ?_) (fun _ _ q _ => q))
    replace hq := hq e8
    refine x_astore_n (lv' := [(2, rv x7), (0, rv x0), (1, rv x1)]) dX5_variable_26 (by decide) (by first | rfl | (simp [rv_cat, Value.category]; done) | (simp [rv_cat, Value.category]; decide)) ?_
    refine x_aload_n 1 dX5_variable_27 rfl ?_
    have t9 : tg h6 x0 = 6 := e8.tg g3 (by decide)
    refine x_get (v := rv (fR h6 x0 1299)) fdX5_166 dX5_variable_28 t9 rfl ?_
    refine x_astore_n (lv' := [(3, rv (fR h6 x0 1299)), (2, rv x7), (0, rv x0), (1, rv x1)]) dX5_variable_31 (by decide) (by first | rfl | (simp [rv_cat, Value.category]; done) | (simp [rv_cat, Value.category]; decide)) ?_
    refine x_aload_n 1 dX5_variable_32 rfl ?_
    obtain ⟨g10, hq⟩ := hq
    refine x_getN (v := .int (fI h6 x7 2048)) gfX5_199 dX5_variable_33 g10 rfl ?_
    refine x_iconst (v := 2) dX5_variable_36 (by decide) ?_
    refine x_icmp_eq (tgt := 59) dX5_variable_37 (by decide) (fun c11 => ?_) (fun c11 => ?_)
    · replace hq := hq.1 c11
      refine xP.pick (lv' := [(0, rv x0), (1, rv x1), (2, rv x7), (3, rv (fR h6 x0 1299))]) [2, 3, 1, 0] rfl ?_
      exact uX5_variable_59 hq
    · replace hq := hq.2 c11
      refine x_aload_n 1 dX5_variable_40 rfl ?_
      refine x_getN (v := .int (fI h6 x7 2048)) gfX5_199 dX5_variable_41 g10 rfl ?_
      refine x_iconst (v := 5) dX5_variable_44 (by decide) ?_
      refine x_icmp_eq (tgt := 59) dX5_variable_45 (by decide) (fun c12 => ?_) (fun c12 => ?_)
      · replace hq := hq.1 c12
        refine xP.pick (lv' := [(0, rv x0), (1, rv x1), (2, rv x7), (3, rv (fR h6 x0 1299))]) [2, 3, 1, 0] rfl ?_
        exact uX5_variable_59 hq
      · replace hq := hq.2 c12
        refine x_aload_n 2 dX5_variable_48 rfl ?_
        refine x_bipush (v := 6) dX5_variable_49 (by decide) ?_
        refine x_aload_n 3 dX5_variable_51 rfl ?_
        have t13 : tg h6 x1 = 16 := e8.tg g1 (by decide)
        obtain ⟨g14, g15, hq⟩ := hq
        refine x_callV (Yc := YX15_place) (as := []) (st := [.int 6, rv x0]) q2013 mvX15_place t13 rfl dX5_variable_52 (xle (xal1 (rv_cat _) xal0) (by decide)) (xfr g14) (xlo (xsw1 rfl (xsw1 (rv_cat _) xsw0)) (by decide) g15) (xKi hq (fun x17 h16 hq e18 => ?_) (fun _ _ q _ => q))
        replace hq := hq e18
        have t19 : tg h16 x0 = 6 := e18.tg t9 (by decide)
        obtain ⟨g20, g21, hq⟩ := hq
        refine x_callV (Yc := YX5_fault) (as := [.int 6, .int x17]) (st := []) q2087 mvX5_fault t19 rfl dX5_variable_55 (xle (xal1 (rv_cat _) (xal1 rfl (xal1 rfl xal0))) (by decide)) (xfr g20) (xlo xsw0 (by decide) g21) (xKr hq (fun x23 h22 hq e24 => ?_) (fun _ _ q _ => q))
        replace hq := hq e24
        obtain ⟨r25, g26, hq⟩ := hq
        rw [g26]
        exact x_athrow dX5_variable_58 hq
  · replace hq := hq.2 c2
    refine x_aload_n 0 dX5_variable_9 rfl ?_
    refine x_bipush (v := 6) dX5_variable_10 (by decide) ?_
    refine x_aload_n 0 dX5_variable_12 rfl ?_
    refine x_aload_n 1 dX5_variable_13 rfl ?_
    obtain ⟨g27, hq⟩ := hq
    obtain ⟨g28, g29, hq⟩ := hq
    refine x_callV (Yc := YX5_firstOf) (as := [rv x1]) (st := [.int 6, rv x0]) q2510 mvX5_firstOf g27 rfl dX5_variable_14 (xle (xal1 (rv_cat _) (xal1 (rv_cat _) xal0)) (by decide)) (xfr g28) (xlo (xsw1 rfl (xsw1 (rv_cat _) xsw0)) (by decide) g29) (xKi hq (fun x31 h30 hq e32 => ?_) (fun _ _ q _ => q))
    replace hq := hq e32
    have t33 : tg h30 x0 = 6 := e32.tg g27 (by decide)
    obtain ⟨g34, g35, hq⟩ := hq
    refine x_callV (Yc := YX5_fault) (as := [.int 6, .int x31]) (st := []) q2087 mvX5_fault t33 rfl dX5_variable_17 (xle (xal1 (rv_cat _) (xal1 rfl (xal1 rfl xal0))) (by decide)) (xfr g34) (xlo xsw0 (by decide) g35) (xKr hq (fun x37 h36 hq e38 => ?_) (fun _ _ q _ => q))
    replace hq := hq e38
    obtain ⟨r39, g40, hq⟩ := hq
    rw [g40]
    exact x_athrow dX5_variable_20 hq
theorem rX5_variable {G : xG} {fr lo : Nat} {x0 : Nat} {x1 : Nat} {h : xH} {Q : Outcome → xH → Prop} (hq : bX5_variable G fr lo x0 x1 h Q) : xR G YX5_variable fr lo [rv x0, rv x1] h Q := by
  show xP _ _ _ _ _ (lv_args 0 _) _ _ _
  rw [show lv_args 0 [rv x0, rv x1] = [(0, rv x0), (1, rv x1)] from (xla1 (rv_cat _) (xla1 (rv_cat _) xla0))]
  exact uX5_variable hq
set_option maxRecDepth 100000 in
theorem dX5_address_0 : decode cX5_address 0 = .ok (.aload_n 0, 1) := by decide +kernel
set_option maxRecDepth 100000 in
theorem dX5_address_1 : decode cX5_address 1 = .ok (.getfield 62, 3) := by decide +kernel
set_option maxRecDepth 100000 in
theorem dX5_address_4 : decode cX5_address 4 = .ok (.aload_n 1, 1) := by decide +kernel
set_option maxRecDepth 100000 in
theorem dX5_address_5 : decode cX5_address 5 = .ok (.getfield 553, 3) := by decide +kernel
set_option maxRecDepth 100000 in
theorem dX5_address_8 : decode cX5_address 8 = .ok (.ifCond .eq 7, 3) := by decide +kernel
set_option maxRecDepth 100000 in
theorem dX5_address_11 : decode cX5_address 11 = .ok (.iconst 3, 1) := by decide +kernel
set_option maxRecDepth 100000 in
theorem dX5_address_12 : decode cX5_address 12 = .ok (.goto 4, 3) := by decide +kernel
set_option maxRecDepth 100000 in
theorem dX5_address_15 : decode cX5_address 15 = .ok (.iconst 2, 1) := by decide +kernel
set_option maxRecDepth 100000 in
theorem dX5_address_16 : decode cX5_address 16 = .ok (.aload_n 0, 1) := by decide +kernel
set_option maxRecDepth 100000 in
theorem dX5_address_17 : decode cX5_address 17 = .ok (.getfield 416, 3) := by decide +kernel
set_option maxRecDepth 100000 in
theorem dX5_address_20 : decode cX5_address 20 = .ok (.getfield 447, 3) := by decide +kernel
set_option maxRecDepth 100000 in
theorem dX5_address_23 : decode cX5_address 23 = .ok (.aload_n 1, 1) := by decide +kernel
set_option maxRecDepth 100000 in
theorem dX5_address_24 : decode cX5_address 24 = .ok (.getfield 450, 3) := by decide +kernel
set_option maxRecDepth 100000 in
theorem dX5_address_27 : decode cX5_address 27 = .ok (.isub, 1) := by decide +kernel
set_option maxRecDepth 100000 in
theorem dX5_address_28 : decode cX5_address 28 = .ok (.aload_n 1, 1) := by decide +kernel
set_option maxRecDepth 100000 in
theorem dX5_address_29 : decode cX5_address 29 = .ok (.getfield 454, 3) := by decide +kernel
set_option maxRecDepth 100000 in
theorem dX5_address_32 : decode cX5_address 32 = .ok (.iconst 0, 1) := by decide +kernel
set_option maxRecDepth 100000 in
theorem dX5_address_33 : decode cX5_address 33 = .ok (.iconst 0, 1) := by decide +kernel
set_option maxRecDepth 100000 in
theorem dX5_address_34 : decode cX5_address 34 = .ok (.invokevirtual 506, 3) := by decide +kernel
set_option maxRecDepth 100000 in
theorem dX5_address_37 : decode cX5_address 37 = .ok (.pop, 1) := by decide +kernel
set_option maxRecDepth 100000 in
theorem dX5_address_38 : decode cX5_address 38 = .ok (.return_, 1) := by decide +kernel
set_option maxRecDepth 100000 in
def bX5_address_16 (G : xG) (fr lo : Nat) (x0 : Nat) (x1 : Nat) (s0 : Int32) (s1 : Nat) (h : xH) (Q : Outcome → xH → Prop) : Prop := tg h x0 = 6 ∧ tg h (fR h x0 1295) = 17 ∧ tg h x1 = 9 ∧ tg h s1 = 3 ∧ 1 ≤ fr ∧ 17 ≤ lo ∧ xRi G YX2_put (fr - 1) (lo - 17) [rv s1, .int s0, .int ((fI h (fR h x0 1295) 4102) - (fI h x1 2052)), .int (fI h x1 2053), .int 0, .int 0] h (fun x8 h7 => xext h h7 → Q (.returned none) h7) (fun r h2 => Q (.threw r) h2)
set_option maxRecDepth 100000 in
theorem uX5_address_16 {G : xG} {fr lo : Nat} {x0 : Nat} {x1 : Nat} {s0 : Int32} {s1 : Nat} {h : xH} {Q : Outcome → xH → Prop} (hq : bX5_address_16 G fr lo x0 x1 s0 s1 h Q) : xP G YX5_address fr lo 16 [(0, rv x0), (1, rv x1)] [.int s0, rv s1] h Q := by
  unfold bX5_address_16 at hq
  refine x_aload_n 0 dX5_address_16 rfl ?_
  obtain ⟨g1, hq⟩ := hq
  refine x_get (v := rv (fR h x0 1295)) fdX5_416 dX5_address_17 g1 rfl ?_
  obtain ⟨g2, hq⟩ := hq
  refine x_getN (v := .int (fI h (fR h x0 1295) 4102)) gfX5_447 dX5_address_20 g2 rfl ?_
  refine x_aload_n 1 dX5_address_23 rfl ?_
  obtain ⟨g3, hq⟩ := hq
  refine x_getN (v := .int (fI h x1 2052)) gfX5_450 dX5_address_24 g3 rfl ?_
  refine x_isub dX5_address_27 ?_
  refine x_aload_n 1 dX5_address_28 rfl ?_
  refine x_getN (v := .int (fI h x1 2053)) gfX5_454 dX5_address_29 g3 rfl ?_
  refine x_iconst (v := 0) dX5_address_32 (by decide) ?_
  refine x_iconst (v := 0) dX5_address_33 (by decide) ?_
  obtain ⟨g4, hq⟩ := hq
  obtain ⟨g5, g6, hq⟩ := hq
  refine x_callV (Yc := YX2_put) (as := [.int s0, .int ((fI h (fR h x0 1295) 4102) - (fI h x1 2052)), .int (fI h x1 2053), .int 0, .int 0]) (st := []) q2494 mvX2_put g4 rfl dX5_address_34 (xle (xal1 (rv_cat _) (xal1 rfl (xal1 rfl (xal1 rfl (xal1 rfl (xal1 rfl xal0)))))) (by decide)) (xfr g5) (xlo xsw0 (by decide) g6) (xKi hq (fun x8 h7 hq e9 => ?_) (fun _ _ q _ => q))
  replace hq := hq e9
  refine x_pop dX5_address_37 rfl ?_
  exact x_vret rfl dX5_address_38 hq
set_option maxRecDepth 100000 in
def bX5_address (G : xG) (fr lo : Nat) (x0 : Nat) (x1 : Nat) (h : xH) (Q : Outcome → xH → Prop) : Prop := tg h x0 = 6 ∧ tg h x1 = 9 ∧ (((fI h x1 2056) = 0 → bX5_address_16 G fr lo x0 x1 2 (fR h x0 1281) h Q) ∧ (¬ (fI h x1 2056) = 0 → bX5_address_16 G fr lo x0 x1 3 (fR h x0 1281) h Q))
set_option maxRecDepth 100000 in
theorem uX5_address {G : xG} {fr lo : Nat} {x0 : Nat} {x1 : Nat} {h : xH} {Q : Outcome → xH → Prop} (hq : bX5_address G fr lo x0 x1 h Q) : xP G YX5_address fr lo 0 [(0, rv x0), (1, rv x1)] [] h Q := by
  unfold bX5_address at hq
  refine x_aload_n 0 dX5_address_0 rfl ?_
  obtain ⟨g1, hq⟩ := hq
  refine x_get (v := rv (fR h x0 1281)) fdX5_62 dX5_address_1 g1 rfl ?_
  refine x_aload_n 1 dX5_address_4 rfl ?_
  obtain ⟨g2, hq⟩ := hq
  refine x_getN (v := .int (fI h x1 2056)) gfX5_553 dX5_address_5 g2 rfl ?_
  refine x_if_eq (tgt := 15) dX5_address_8 (by decide) (fun c3 => ?_) (fun c3 => ?_)
  · replace hq := hq.1 c3
    refine x_iconst (v := 2) dX5_address_15 (by decide) ?_
    exact uX5_address_16 hq
  · replace hq := hq.2 c3
    refine x_iconst (v := 3) dX5_address_11 (by decide) ?_
    refine x_goto (tgt := 16) dX5_address_12 (by decide) ?_
    exact uX5_address_16 hq
theorem rX5_address {G : xG} {fr lo : Nat} {x0 : Nat} {x1 : Nat} {h : xH} {Q : Outcome → xH → Prop} (hq : bX5_address G fr lo x0 x1 h Q) : xR G YX5_address fr lo [rv x0, rv x1] h Q := by
  show xP _ _ _ _ _ (lv_args 0 _) _ _ _
  rw [show lv_args 0 [rv x0, rv x1] = [(0, rv x0), (1, rv x1)] from (xla1 (rv_cat _) (xla1 (rv_cat _) xla0))]
  exact uX5_address hq
set_option maxRecDepth 100000 in
theorem dX5_fieldOf_0 : decode cX5_fieldOf 0 = .ok (.aload_n 0, 1) := by decide +kernel
set_option maxRecDepth 100000 in
theorem dX5_fieldOf_1 : decode cX5_fieldOf 1 = .ok (.aload_n 1, 1) := by decide +kernel
set_option maxRecDepth 100000 in
theorem dX5_fieldOf_2 : decode cX5_fieldOf 2 = .ok (.getfield 723, 3) := by decide +kernel
set_option maxRecDepth 100000 in
theorem dX5_fieldOf_5 : decode cX5_fieldOf 5 = .ok (.aload_n 1, 1) := by decide +kernel
set_option maxRecDepth 100000 in
theorem dX5_fieldOf_6 : decode cX5_fieldOf 6 = .ok (.getfield 726, 3) := by decide +kernel
set_option maxRecDepth 100000 in
theorem dX5_fieldOf_9 : decode cX5_fieldOf 9 = .ok (.iload_n 2, 1) := by decide +kernel
set_option maxRecDepth 100000 in
theorem dX5_fieldOf_10 : decode cX5_fieldOf 10 = .ok (.invokevirtual 729, 3) := by decide +kernel
set_option maxRecDepth 100000 in
theorem dX5_fieldOf_13 : decode cX5_fieldOf 13 = .ok (.aload_n 1, 1) := by decide +kernel
set_option maxRecDepth 100000 in
theorem dX5_fieldOf_14 : decode cX5_fieldOf 14 = .ok (.getfield 731, 3) := by decide +kernel
set_option maxRecDepth 100000 in
theorem dX5_fieldOf_17 : decode cX5_fieldOf 17 = .ok (.ifCond .le 19, 3) := by decide +kernel
set_option maxRecDepth 100000 in
theorem dX5_fieldOf_20 : decode cX5_fieldOf 20 = .ok (.aload_n 0, 1) := by decide +kernel
set_option maxRecDepth 100000 in
theorem dX5_fieldOf_21 : decode cX5_fieldOf 21 = .ok (.getfield 62, 3) := by decide +kernel
set_option maxRecDepth 100000 in
theorem dX5_fieldOf_24 : decode cX5_fieldOf 24 = .ok (.iconst 4, 1) := by decide +kernel
set_option maxRecDepth 100000 in
theorem dX5_fieldOf_25 : decode cX5_fieldOf 25 = .ok (.aload_n 1, 1) := by decide +kernel
set_option maxRecDepth 100000 in
theorem dX5_fieldOf_26 : decode cX5_fieldOf 26 = .ok (.getfield 731, 3) := by decide +kernel
set_option maxRecDepth 100000 in
theorem dX5_fieldOf_29 : decode cX5_fieldOf 29 = .ok (.iconst 0, 1) := by decide +kernel
set_option maxRecDepth 100000 in
theorem dX5_fieldOf_30 : decode cX5_fieldOf 30 = .ok (.iconst 0, 1) := by decide +kernel
set_option maxRecDepth 100000 in
theorem dX5_fieldOf_31 : decode cX5_fieldOf 31 = .ok (.iconst 0, 1) := by decide +kernel
set_option maxRecDepth 100000 in
theorem dX5_fieldOf_32 : decode cX5_fieldOf 32 = .ok (.invokevirtual 506, 3) := by decide +kernel
set_option maxRecDepth 100000 in
theorem dX5_fieldOf_35 : decode cX5_fieldOf 35 = .ok (.pop, 1) := by decide +kernel
set_option maxRecDepth 100000 in
theorem dX5_fieldOf_36 : decode cX5_fieldOf 36 = .ok (.aload_n 0, 1) := by decide +kernel
set_option maxRecDepth 100000 in
theorem dX5_fieldOf_37 : decode cX5_fieldOf 37 = .ok (.aload_n 1, 1) := by decide +kernel
set_option maxRecDepth 100000 in
theorem dX5_fieldOf_38 : decode cX5_fieldOf 38 = .ok (.getfield 383, 3) := by decide +kernel
set_option maxRecDepth 100000 in
theorem dX5_fieldOf_41 : decode cX5_fieldOf 41 = .ok (.putfield 702, 3) := by decide +kernel
set_option maxRecDepth 100000 in
theorem dX5_fieldOf_44 : decode cX5_fieldOf 44 = .ok (.aload_n 1, 1) := by decide +kernel
set_option maxRecDepth 100000 in
theorem dX5_fieldOf_45 : decode cX5_fieldOf 45 = .ok (.getfield 184, 3) := by decide +kernel
set_option maxRecDepth 100000 in
theorem dX5_fieldOf_48 : decode cX5_fieldOf 48 = .ok (.areturn, 1) := by decide +kernel
set_option maxRecDepth 100000 in
def bX5_fieldOf_36 (G : xG) (fr lo : Nat) (x0 : Nat) (x1 : Nat) (h : xH) (Q : Outcome → xH → Prop) : Prop := tg h x1 = 21 ∧ tg h x0 = 6 ∧ (∀ h3 : xH, h3 = sR h x0 1302 (fR h x1 5125) → Q (.returned (some (rv (fR h3 x1 5121)))) h3)
set_option maxRecDepth 100000 in
theorem uX5_fieldOf_36 {G : xG} {fr lo : Nat} {x0 : Nat} {x1 : Nat} {h : xH} {Q : Outcome → xH → Prop} (hq : bX5_fieldOf_36 G fr lo x0 x1 h Q) : xP G YX5_fieldOf fr lo 36 [(0, rv x0), (1, rv x1)] [] h Q := by
  unfold bX5_fieldOf_36 at hq
  refine x_aload_n 0 dX5_fieldOf_36 rfl ?_
  refine x_aload_n 1 dX5_fieldOf_37 rfl ?_
  obtain ⟨g1, hq⟩ := hq
  refine x_getN (v := rv (fR h x1 5125)) gfX5_383 dX5_fieldOf_38 g1 rfl ?_
  obtain ⟨g2, hq⟩ := hq
  obtain ⟨h3, e4⟩ : ∃ y, y = sR h x0 1302 (fR h x1 5125) := ⟨_, rfl⟩
  replace hq := hq h3 e4
  refine x_putR fdX5_702 xty_O dX5_fieldOf_41 g2 (Or.inl (by rw [g2]; rfl)) rfl e4 ?_
  refine x_aload_n 1 dX5_fieldOf_44 rfl ?_
  have t5 : tg h3 x1 = 21 := by rw [e4]; exact g1
  refine x_getN (v := rv (fR h3 x1 5121)) gfX5_184 dX5_fieldOf_45 t5 rfl ?_
  exact x_aret rfl xty_O dX5_fieldOf_48 hq
set_option maxRecDepth 100000 in
def bX5_fieldOf (G : xG) (fr lo : Nat) (x0 : Nat) (x1 : Nat) (x2 : Int32) (h : xH) (Q : Outcome → xH → Prop) : Prop := tg h x1 = 21 ∧ tg h x0 = 6 ∧ 1 ≤ fr ∧ 15 ≤ lo ∧ xRv G YX5_parts (fr - 1) (lo - 15) [rv x0, rv (fR h x1 5124), .int (fI h x1 5123), .int x2] h (fun h5 => xext h h5 → (((fI h5 x1 5122) ≤ 0 → bX5_fieldOf_36 G fr lo x0 x1 h5 Q) ∧ (¬ (fI h5 x1 5122) ≤ 0 → tg h5 (fR h5 x0 1281) = 3 ∧ 1 ≤ fr ∧ 17 ≤ lo ∧ xRi G YX2_put (fr - 1) (lo - 17) [rv (fR h5 x0 1281), .int 4, .int (fI h5 x1 5122), .int 0, .int 0, .int 0] h5 (fun x15 h14 => xext h5 h14 → bX5_fieldOf_36 G fr lo x0 x1 h14 Q) (fun r h2 => Q (.threw r) h2)))) (fun r h2 => Q (.threw r) h2)
set_option maxRecDepth 100000 in
theorem uX5_fieldOf {G : xG} {fr lo : Nat} {x0 : Nat} {x1 : Nat} {x2 : Int32} {h : xH} {Q : Outcome → xH → Prop} (hq : bX5_fieldOf G fr lo x0 x1 x2 h Q) : xP G YX5_fieldOf fr lo 0 [(0, rv x0), (1, rv x1), (2, .int x2)] [] h Q := by
  unfold bX5_fieldOf at hq
  refine x_aload_n 0 dX5_fieldOf_0 rfl ?_
  refine x_aload_n 1 dX5_fieldOf_1 rfl ?_
  obtain ⟨g1, hq⟩ := hq
  refine x_getN (v := rv (fR h x1 5124)) gfX5_723 dX5_fieldOf_2 g1 rfl ?_
  refine x_aload_n 1 dX5_fieldOf_5 rfl ?_
  refine x_getN (v := .int (fI h x1 5123)) gfX5_726 dX5_fieldOf_6 g1 rfl ?_
  refine x_iload_n 2 dX5_fieldOf_9 rfl ?_
  obtain ⟨g2, hq⟩ := hq
  obtain ⟨g3, g4, hq⟩ := hq
  refine x_callV (Yc := YX5_parts) (as := [rv (fR h x1 5124), .int (fI h x1 5123), .int x2]) (st := []) q2602 mvX5_parts g2 rfl dX5_fieldOf_10 (xle (xal1 (rv_cat _) (xal1 (rv_cat _) (xal1 rfl (xal1 rfl xal0)))) (by decide)) (xfr g3) (xlo xsw0 (by decide) g4) (xKv hq (fun h5 hq e7 => ?_) (fun _ _ q _ => q))
  replace hq := hq e7
  refine x_aload_n 1 dX5_fieldOf_13 rfl ?_
  have t8 : tg h5 x1 = 21 := e7.tg g1 (by decide)
  refine x_getN (v := .int (fI h5 x1 5122)) gfX5_731 dX5_fieldOf_14 t8 rfl ?_
  refine x_if_le (tgt := 36) dX5_fieldOf_17 (by decide) (fun c9 => ?_) (fun c9 => ?_)
  · replace hq := hq.1 c9
    refine xP.pick (lv' := [(0, rv x0), (1, rv x1)]) [0, 1] rfl ?_
    exact uX5_fieldOf_36 hq
  · replace hq := hq.2 c9
    refine x_aload_n 0 dX5_fieldOf_20 rfl ?_
    have t10 : tg h5 x0 = 6 := e7.tg g2 (by decide)
    refine x_get (v := rv (fR h5 x0 1281)) fdX5_62 dX5_fieldOf_21 t10 rfl ?_
    refine x_iconst (v := 4) dX5_fieldOf_24 (by decide) ?_
    refine x_aload_n 1 dX5_fieldOf_25 rfl ?_
    refine x_getN (v := .int (fI h5 x1 5122)) gfX5_731 dX5_fieldOf_26 t8 rfl ?_
    refine x_iconst (v := 0) dX5_fieldOf_29 (by decide) ?_
    refine x_iconst (v := 0) dX5_fieldOf_30 (by decide) ?_
    refine x_iconst (v := 0) dX5_fieldOf_31 (by decide) ?_
    obtain ⟨g11, hq⟩ := hq
    obtain ⟨g12, g13, hq⟩ := hq
    refine x_callV (Yc := YX2_put) (as := [.int 4, .int (fI h5 x1 5122), .int 0, .int 0, .int 0]) (st := []) q2494 mvX2_put g11 rfl dX5_fieldOf_32 (xle (xal1 (rv_cat _) (xal1 rfl (xal1 rfl (xal1 rfl (xal1 rfl (xal1 rfl xal0)))))) (by decide)) (xfr g12) (xlo xsw0 (by decide) g13) (xKi hq (fun x15 h14 hq e16 => ?_) (fun _ _ q _ => q))
    replace hq := hq e16
    refine x_pop dX5_fieldOf_35 rfl ?_
    refine xP.pick (lv' := [(0, rv x0), (1, rv x1)]) [0, 1] rfl ?_
    exact uX5_fieldOf_36 hq
theorem rX5_fieldOf {G : xG} {fr lo : Nat} {x0 : Nat} {x1 : Nat} {x2 : Int32} {h : xH} {Q : Outcome → xH → Prop} (hq : bX5_fieldOf G fr lo x0 x1 x2 h Q) : xR G YX5_fieldOf fr lo [rv x0, rv x1, .int x2] h Q := by
  show xP _ _ _ _ _ (lv_args 0 _) _ _ _
  rw [show lv_args 0 [rv x0, rv x1, .int x2] = [(0, rv x0), (1, rv x1), (2, .int x2)] from (xla1 (rv_cat _) (xla1 (rv_cat _) (xla1 rfl xla0)))]
  exact uX5_fieldOf hq
set_option maxRecDepth 100000 in
theorem dX5_parts_0 : decode cX5_parts 0 = .ok (.aload_n 1, 1) := by decide +kernel
set_option maxRecDepth 100000 in
theorem dX5_parts_1 : decode cX5_parts 1 = .ok (.ifnull 21, 3) := by decide +kernel
set_option maxRecDepth 100000 in
theorem dX5_parts_4 : decode cX5_parts 4 = .ok (.aload_n 0, 1) := by decide +kernel
set_option maxRecDepth 100000 in
theorem dX5_parts_5 : decode cX5_parts 5 = .ok (.getfield 62, 3) := by decide +kernel
set_option maxRecDepth 100000 in
theorem dX5_parts_8 : decode cX5_parts 8 = .ok (.bipush 8, 2) := by decide +kernel
set_option maxRecDepth 100000 in
theorem dX5_parts_10 : decode cX5_parts 10 = .ok (.aload_n 0, 1) := by decide +kernel
set_option maxRecDepth 100000 in
theorem dX5_parts_11 : decode cX5_parts 11 = .ok (.aload_n 1, 1) := by decide +kernel
set_option maxRecDepth 100000 in
theorem dX5_parts_12 : decode cX5_parts 12 = .ok (.invokevirtual 716, 3) := by decide +kernel
set_option maxRecDepth 100000 in
theorem dX5_parts_15 : decode cX5_parts 15 = .ok (.iload_n 2, 1) := by decide +kernel
set_option maxRecDepth 100000 in
theorem dX5_parts_16 : decode cX5_parts 16 = .ok (.iconst 0, 1) := by decide +kernel
set_option maxRecDepth 100000 in
theorem dX5_parts_17 : decode cX5_parts 17 = .ok (.iload_n 3, 1) := by decide +kernel
set_option maxRecDepth 100000 in
theorem dX5_parts_18 : decode cX5_parts 18 = .ok (.invokevirtual 506, 3) := by decide +kernel
set_option maxRecDepth 100000 in
theorem dX5_parts_21 : decode cX5_parts 21 = .ok (.pop, 1) := by decide +kernel
set_option maxRecDepth 100000 in
theorem dX5_parts_22 : decode cX5_parts 22 = .ok (.return_, 1) := by decide +kernel
set_option maxRecDepth 100000 in
def bX5_parts_22 (G : xG) (fr lo : Nat) (h : xH) (Q : Outcome → xH → Prop) : Prop := Q (.returned none) h
set_option maxRecDepth 100000 in
theorem uX5_parts_22 {G : xG} {fr lo : Nat} {h : xH} {Q : Outcome → xH → Prop} (hq : bX5_parts_22 G fr lo h Q) : xP G YX5_parts fr lo 22 [] [] h Q := by
  unfold bX5_parts_22 at hq
  exact x_vret rfl dX5_parts_22 hq
set_option maxRecDepth 100000 in
def bX5_parts (G : xG) (fr lo : Nat) (x0 : Nat) (x1 : Nat) (x2 : Int32) (x3 : Int32) (h : xH) (Q : Outcome → xH → Prop) : Prop := ((x1 = 0 → bX5_parts_22 G fr lo h Q) ∧ (¬ x1 = 0 → tg h x0 = 6 ∧ 1 ≤ fr ∧ 16 ≤ lo ∧ xRi G YX5_partNumber (fr - 1) (lo - 16) [rv x0, rv x1] h (fun x6 h5 => xext h h5 → tg h5 (fR h x0 1281) = 3 ∧ 1 ≤ fr ∧ 17 ≤ lo ∧ xRi G YX2_put (fr - 1) (lo - 17) [rv (fR h x0 1281), .int 8, .int x6, .int x2, .int 0, .int x3] h5 (fun x12 h11 => xext h5 h11 → bX5_parts_22 G fr lo h11 Q) (fun r h2 => Q (.threw r) h2)) (fun r h2 => Q (.threw r) h2)))
set_option maxRecDepth 100000 in
theorem uX5_parts {G : xG} {fr lo : Nat} {x0 : Nat} {x1 : Nat} {x2 : Int32} {x3 : Int32} {h : xH} {Q : Outcome → xH → Prop} (hq : bX5_parts G fr lo x0 x1 x2 x3 h Q) : xP G YX5_parts fr lo 0 [(0, rv x0), (1, rv x1), (2, .int x2), (3, .int x3)] [] h Q := by
  unfold bX5_parts at hq
  refine x_aload_n 1 dX5_parts_0 rfl ?_
  refine x_ifnull (tgt := 22) dX5_parts_1 (by decide) (fun c1 => ?_) (fun c1 => ?_)
  · replace hq := hq.1 c1
    refine xP.pick (lv' := []) [] rfl ?_
    exact uX5_parts_22 hq
  · replace hq := hq.2 c1
    refine x_aload_n 0 dX5_parts_4 rfl ?_
    obtain ⟨g2, hq⟩ := hq
    refine x_get (v := rv (fR h x0 1281)) fdX5_62 dX5_parts_5 g2 rfl ?_
    refine x_bipush (v := 8) dX5_parts_8 (by decide) ?_
    refine x_aload_n 0 dX5_parts_10 rfl ?_
    refine x_aload_n 1 dX5_parts_11 rfl ?_
    obtain ⟨g3, g4, hq⟩ := hq
    refine x_callV (Yc := YX5_partNumber) (as := [rv x1]) (st := [.int 8, rv (fR h x0 1281)]) q2606 mvX5_partNumber g2 rfl dX5_parts_12 (xle (xal1 (rv_cat _) (xal1 (rv_cat _) xal0)) (by decide)) (xfr g3) (xlo (xsw1 rfl (xsw1 (rv_cat _) xsw0)) (by decide) g4) (xKi hq (fun x6 h5 hq e7 => ?_) (fun _ _ q _ => q))
    replace hq := hq e7
    refine x_iload_n 2 dX5_parts_15 rfl ?_
    refine x_iconst (v := 0) dX5_parts_16 (by decide) ?_
    refine x_iload_n 3 dX5_parts_17 rfl ?_
    obtain ⟨g8, hq⟩ := hq
    obtain ⟨g9, g10, hq⟩ := hq
    refine x_callV (Yc := YX2_put) (as := [.int 8, .int x6, .int x2, .int 0, .int x3]) (st := []) q2494 mvX2_put g8 rfl dX5_parts_18 (xle (xal1 (rv_cat _) (xal1 rfl (xal1 rfl (xal1 rfl (xal1 rfl (xal1 rfl xal0)))))) (by decide)) (xfr g9) (xlo xsw0 (by decide) g10) (xKi hq (fun x12 h11 hq e13 => ?_) (fun _ _ q _ => q))
    replace hq := hq e13
    refine x_pop dX5_parts_21 rfl ?_
    refine xP.pick (lv' := []) [] rfl ?_
    exact uX5_parts_22 hq
theorem rX5_parts {G : xG} {fr lo : Nat} {x0 : Nat} {x1 : Nat} {x2 : Int32} {x3 : Int32} {h : xH} {Q : Outcome → xH → Prop} (hq : bX5_parts G fr lo x0 x1 x2 x3 h Q) : xR G YX5_parts fr lo [rv x0, rv x1, .int x2, .int x3] h Q := by
  show xP _ _ _ _ _ (lv_args 0 _) _ _ _
  rw [show lv_args 0 [rv x0, rv x1, .int x2, .int x3] = [(0, rv x0), (1, rv x1), (2, .int x2), (3, .int x3)] from (xla1 (rv_cat _) (xla1 (rv_cat _) (xla1 rfl (xla1 rfl xla0))))]
  exact uX5_parts hq
set_option maxRecDepth 100000 in
theorem dX5_partNumber_0 : decode cX5_partNumber 0 = .ok (.iconst 0, 1) := by decide +kernel
set_option maxRecDepth 100000 in
theorem dX5_partNumber_1 : decode cX5_partNumber 1 = .ok (.istore_n 2, 1) := by decide +kernel
set_option maxRecDepth 100000 in
theorem dX5_partNumber_2 : decode cX5_partNumber 2 = .ok (.aload_n 0, 1) := by decide +kernel
set_option maxRecDepth 100000 in
theorem dX5_partNumber_3 : decode cX5_partNumber 3 = .ok (.getfield 62, 3) := by decide +kernel
set_option maxRecDepth 100000 in
theorem dX5_partNumber_6 : decode cX5_partNumber 6 = .ok (.getfield 390, 3) := by decide +kernel
set_option maxRecDepth 100000 in
theorem dX5_partNumber_9 : decode cX5_partNumber 9 = .ok (.iload_n 2, 1) := by decide +kernel
set_option maxRecDepth 100000 in
theorem dX5_partNumber_10 : decode cX5_partNumber 10 = .ok (.invokevirtual 331, 3) := by decide +kernel
set_option maxRecDepth 100000 in
theorem dX5_partNumber_13 : decode cX5_partNumber 13 = .ok (.aload_n 1, 1) := by decide +kernel
set_option maxRecDepth 100000 in
theorem dX5_partNumber_14 : decode cX5_partNumber 14 = .ok (.if_acmp .eq 9, 3) := by decide +kernel
set_option maxRecDepth 100000 in
theorem dX5_partNumber_17 : decode cX5_partNumber 17 = .ok (.iinc 2 1, 3) := by decide +kernel
set_option maxRecDepth 100000 in
theorem dX5_partNumber_20 : decode cX5_partNumber 20 = .ok (.goto (-18), 3) := by decide +kernel
set_option maxRecDepth 100000 in
theorem dX5_partNumber_23 : decode cX5_partNumber 23 = .ok (.iload_n 2, 1) := by decide +kernel
set_option maxRecDepth 100000 in
theorem dX5_partNumber_24 : decode cX5_partNumber 24 = .ok (.ireturn, 1) := by decide +kernel
def lX5_partNumber_2 (G : xG) (fr lo : Nat) (x0 : Nat) (x1 : Nat) (x2 : Int32) (h : xH) (Q : Outcome → xH → Prop) : Prop := xP G YX5_partNumber fr lo 2 [(0, rv x0), (1, rv x1), (2, .int x2)] [] h Q
set_option maxRecDepth 100000 in
def bX5_partNumber_2 (G : xG) (fr lo : Nat) (x0 : Nat) (x1 : Nat) (x2 : Int32) (h : xH) (Q : Outcome → xH → Prop) : Prop := tg h x0 = 6 ∧ tg h (fR h x0 1281) = 3 ∧ tg h (fR h (fR h x0 1281) 523) = 29 ∧ 1 ≤ fr ∧ 13 ≤ lo ∧ xRr G YJ2_get (fr - 1) (lo - 13) [rv (fR h (fR h x0 1281) 523), .int x2] h (fun x7 h6 => xext h h6 → ((x7 = x1 → Q (.returned (some (.int x2))) h6) ∧ (¬ x7 = x1 → lX5_partNumber_2 G fr lo x0 x1 (x2 + 1) h6 Q))) (fun r h2 => Q (.threw r) h2)
set_option maxRecDepth 100000 in
theorem uX5_partNumber_2 {G : xG} {fr lo : Nat} {x0 : Nat} {x1 : Nat} {x2 : Int32} {h : xH} {Q : Outcome → xH → Prop} (hq : bX5_partNumber_2 G fr lo x0 x1 x2 h Q) : xP G YX5_partNumber fr lo 2 [(0, rv x0), (1, rv x1), (2, .int x2)] [] h Q := by
  unfold bX5_partNumber_2 at hq
  refine x_aload_n 0 dX5_partNumber_2 rfl ?_
  obtain ⟨g1, hq⟩ := hq
  refine x_get (v := rv (fR h x0 1281)) fdX5_62 dX5_partNumber_3 g1 rfl ?_
  obtain ⟨g2, hq⟩ := hq
  refine x_getN (v := rv (fR h (fR h x0 1281) 523)) gfX5_390 dX5_partNumber_6 g2 rfl ?_
  refine x_iload_n 2 dX5_partNumber_9 rfl ?_
  obtain ⟨g3, hq⟩ := hq
  obtain ⟨g4, g5, hq⟩ := hq
  refine x_callV (Yc := YJ2_get) (as := [.int x2]) (st := []) q2304 mvJ2_get g3 rfl dX5_partNumber_10 (xle (xal1 (rv_cat _) (xal1 rfl xal0)) (by decide)) (xfr g4) (xlo xsw0 (by decide) g5) (xKr hq (fun x7 h6 hq e8 => ?_) (fun _ _ q _ => q))
  replace hq := hq e8
  refine x_aload_n 1 dX5_partNumber_13 rfl ?_
  refine x_acmp_eq (tgt := 23) dX5_partNumber_14 (by decide) (fun c9 => ?_) (fun c9 => ?_)
  · replace hq := hq.1 c9
    refine x_iload_n 2 dX5_partNumber_23 rfl ?_
    exact x_iret rfl rfl dX5_partNumber_24 hq
  · replace hq := hq.2 c9
    refine x_iinc (lv' := [(2, .int (x2 + 1)), (0, rv x0), (1, rv x1)]) 2 dX5_partNumber_17 rfl (by decide) (by first | rfl | (simp [rv_cat, Value.category]; done) | (simp [rv_cat, Value.category]; decide)) ?_
    refine x_goto (tgt := 2) dX5_partNumber_20 (by decide) ?_
    refine xP.pick (lv' := [(0, rv x0), (1, rv x1), (2, .int (x2 + 1))]) [1, 2, 0] rfl ?_
    exact hq
set_option maxRecDepth 100000 in
def bX5_partNumber (G : xG) (fr lo : Nat) (x0 : Nat) (x1 : Nat) (h : xH) (Q : Outcome → xH → Prop) : Prop := lX5_partNumber_2 G fr lo x0 x1 0 h Q
set_option maxRecDepth 100000 in
theorem uX5_partNumber {G : xG} {fr lo : Nat} {x0 : Nat} {x1 : Nat} {h : xH} {Q : Outcome → xH → Prop} (hq : bX5_partNumber G fr lo x0 x1 h Q) : xP G YX5_partNumber fr lo 0 [(0, rv x0), (1, rv x1)] [] h Q := by
  unfold bX5_partNumber at hq
  refine x_iconst (v := 0) dX5_partNumber_0 (by decide) ?_
  refine x_istore_n (lv' := [(2, .int 0), (0, rv x0), (1, rv x1)]) dX5_partNumber_1 (by decide) (by first | rfl | (simp [rv_cat, Value.category]; done) | (simp [rv_cat, Value.category]; decide)) ?_
  refine xP.pick (lv' := [(0, rv x0), (1, rv x1), (2, .int 0)]) [1, 2, 0] rfl ?_
  exact hq
theorem rX5_partNumber {G : xG} {fr lo : Nat} {x0 : Nat} {x1 : Nat} {h : xH} {Q : Outcome → xH → Prop} (hq : bX5_partNumber G fr lo x0 x1 h Q) : xR G YX5_partNumber fr lo [rv x0, rv x1] h Q := by
  show xP _ _ _ _ _ (lv_args 0 _) _ _ _
  rw [show lv_args 0 [rv x0, rv x1] = [(0, rv x0), (1, rv x1)] from (xla1 (rv_cat _) (xla1 (rv_cat _) xla0))]
  exact uX5_partNumber hq
set_option maxRecDepth 100000 in
theorem dX5_selected_0 : decode cX5_selected 0 = .ok (.aload_n 2, 1) := by decide +kernel
set_option maxRecDepth 100000 in
theorem dX5_selected_1 : decode cX5_selected 1 = .ok (.getfield 264, 3) := by decide +kernel
set_option maxRecDepth 100000 in
theorem dX5_selected_4 : decode cX5_selected 4 = .ok (.bipush 59, 2) := by decide +kernel
set_option maxRecDepth 100000 in
theorem dX5_selected_6 : decode cX5_selected 6 = .ok (.if_icmp .ne 96, 3) := by decide +kernel
set_option maxRecDepth 100000 in
theorem dX5_selected_9 : decode cX5_selected 9 = .ok (.aload_n 1, 1) := by decide +kernel
set_option maxRecDepth 100000 in
theorem dX5_selected_10 : decode cX5_selected 10 = .ok (.getfield 289, 3) := by decide +kernel
set_option maxRecDepth 100000 in
theorem dX5_selected_13 : decode cX5_selected 13 = .ok (.bipush 6, 2) := by decide +kernel
set_option maxRecDepth 100000 in
theorem dX5_selected_15 : decode cX5_selected 15 = .ok (.if_icmp .eq 14, 3) := by decide +kernel
set_option maxRecDepth 100000 in
theorem dX5_selected_18 : decode cX5_selected 18 = .ok (.aload_n 0, 1) := by decide +kernel
set_option maxRecDepth 100000 in
theorem dX5_selected_19 : decode cX5_selected 19 = .ok (.bipush 7, 2) := by decide +kernel
set_option maxRecDepth 100000 in
theorem dX5_selected_21 : decode cX5_selected 21 = .ok (.aload_n 2, 1) := by decide +kernel
set_option maxRecDepth 100000 in
theorem dX5_selected_22 : decode cX5_selected 22 = .ok (.invokevirtual 192, 3) := by decide +kernel
set_option maxRecDepth 100000 in
theorem dX5_selected_25 : decode cX5_selected 25 = .ok (.invokevirtual 163, 3) := by decide +kernel
set_option maxRecDepth 100000 in
theorem dX5_selected_28 : decode cX5_selected 28 = .ok (.athrow, 1) := by decide +kernel
set_option maxRecDepth 100000 in
theorem dX5_selected_29 : decode cX5_selected 29 = .ok (.aload_n 1, 1) := by decide +kernel
set_option maxRecDepth 100000 in
theorem dX5_selected_30 : decode cX5_selected 30 = .ok (.getfield 343, 3) := by decide +kernel
set_option maxRecDepth 100000 in
theorem dX5_selected_33 : decode cX5_selected 33 = .ok (.aload_n 0, 1) := by decide +kernel
set_option maxRecDepth 100000 in
theorem dX5_selected_34 : decode cX5_selected 34 = .ok (.aload_n 2, 1) := by decide +kernel
set_option maxRecDepth 100000 in
theorem dX5_selected_35 : decode cX5_selected 35 = .ok (.getfield 251, 3) := by decide +kernel
set_option maxRecDepth 100000 in
theorem dX5_selected_38 : decode cX5_selected 38 = .ok (.invokevirtual 654, 3) := by decide +kernel
set_option maxRecDepth 100000 in
theorem dX5_selected_41 : decode cX5_selected 41 = .ok (.invokevirtual 678, 3) := by decide +kernel
set_option maxRecDepth 100000 in
theorem dX5_selected_44 : decode cX5_selected 44 = .ok (.ifCond .ne 14, 3) := by decide +kernel
set_option maxRecDepth 100000 in
theorem dX5_selected_47 : decode cX5_selected 47 = .ok (.aload_n 0, 1) := by decide +kernel
set_option maxRecDepth 100000 in
theorem dX5_selected_48 : decode cX5_selected 48 = .ok (.bipush 7, 2) := by decide +kernel
set_option maxRecDepth 100000 in
theorem dX5_selected_50 : decode cX5_selected 50 = .ok (.aload_n 2, 1) := by decide +kernel
set_option maxRecDepth 100000 in
theorem dX5_selected_51 : decode cX5_selected 51 = .ok (.invokevirtual 192, 3) := by decide +kernel
set_option maxRecDepth 100000 in
theorem dX5_selected_54 : decode cX5_selected 54 = .ok (.invokevirtual 163, 3) := by decide +kernel
set_option maxRecDepth 100000 in
theorem dX5_selected_57 : decode cX5_selected 57 = .ok (.athrow, 1) := by decide +kernel
set_option maxRecDepth 100000 in
theorem dX5_selected_58 : decode cX5_selected 58 = .ok (.aload_n 0, 1) := by decide +kernel
set_option maxRecDepth 100000 in
theorem dX5_selected_59 : decode cX5_selected 59 = .ok (.getfield 62, 3) := by decide +kernel
set_option maxRecDepth 100000 in
theorem dX5_selected_62 : decode cX5_selected 62 = .ok (.iconst 5, 1) := by decide +kernel
set_option maxRecDepth 100000 in
theorem dX5_selected_63 : decode cX5_selected 63 = .ok (.aload_n 1, 1) := by decide +kernel
set_option maxRecDepth 100000 in
theorem dX5_selected_64 : decode cX5_selected 64 = .ok (.getfield 343, 3) := by decide +kernel
set_option maxRecDepth 100000 in
theorem dX5_selected_67 : decode cX5_selected 67 = .ok (.getfield 338, 3) := by decide +kernel
set_option maxRecDepth 100000 in
theorem dX5_selected_70 : decode cX5_selected 70 = .ok (.aload_n 1, 1) := by decide +kernel
set_option maxRecDepth 100000 in
theorem dX5_selected_71 : decode cX5_selected 71 = .ok (.getfield 343, 3) := by decide +kernel
set_option maxRecDepth 100000 in
theorem dX5_selected_74 : decode cX5_selected 74 = .ok (.getfield 335, 3) := by decide +kernel
set_option maxRecDepth 100000 in
theorem dX5_selected_77 : decode cX5_selected 77 = .ok (.aload_n 1, 1) := by decide +kernel
set_option maxRecDepth 100000 in
theorem dX5_selected_78 : decode cX5_selected 78 = .ok (.getfield 286, 3) := by decide +kernel
set_option maxRecDepth 100000 in
theorem dX5_selected_81 : decode cX5_selected 81 = .ok (.getfield 66, 3) := by decide +kernel
set_option maxRecDepth 100000 in
theorem dX5_selected_84 : decode cX5_selected 84 = .ok (.aload_n 2, 1) := by decide +kernel
set_option maxRecDepth 100000 in
theorem dX5_selected_85 : decode cX5_selected 85 = .ok (.invokevirtual 192, 3) := by decide +kernel
set_option maxRecDepth 100000 in
theorem dX5_selected_88 : decode cX5_selected 88 = .ok (.invokevirtual 506, 3) := by decide +kernel
set_option maxRecDepth 100000 in
theorem dX5_selected_91 : decode cX5_selected 91 = .ok (.pop, 1) := by decide +kernel
set_option maxRecDepth 100000 in
theorem dX5_selected_92 : decode cX5_selected 92 = .ok (.aload_n 0, 1) := by decide +kernel
set_option maxRecDepth 100000 in
theorem dX5_selected_93 : decode cX5_selected 93 = .ok (.aconst_null, 1) := by decide +kernel
set_option maxRecDepth 100000 in
theorem dX5_selected_94 : decode cX5_selected 94 = .ok (.putfield 702, 3) := by decide +kernel
set_option maxRecDepth 100000 in
theorem dX5_selected_97 : decode cX5_selected 97 = .ok (.aload_n 1, 1) := by decide +kernel
set_option maxRecDepth 100000 in
theorem dX5_selected_98 : decode cX5_selected 98 = .ok (.getfield 286, 3) := by decide +kernel
set_option maxRecDepth 100000 in
theorem dX5_selected_101 : decode cX5_selected 101 = .ok (.areturn, 1) := by decide +kernel
set_option maxRecDepth 100000 in
theorem dX5_selected_102 : decode cX5_selected 102 = .ok (.aload_n 2, 1) := by decide +kernel
set_option maxRecDepth 100000 in
theorem dX5_selected_103 : decode cX5_selected 103 = .ok (.getfield 264, 3) := by decide +kernel
set_option maxRecDepth 100000 in
theorem dX5_selected_106 : decode cX5_selected 106 = .ok (.bipush 60, 2) := by decide +kernel
set_option maxRecDepth 100000 in
theorem dX5_selected_108 : decode cX5_selected 108 = .ok (.if_icmp .ne 62, 3) := by decide +kernel
set_option maxRecDepth 100000 in
theorem dX5_selected_111 : decode cX5_selected 111 = .ok (.aload_n 1, 1) := by decide +kernel
set_option maxRecDepth 100000 in
theorem dX5_selected_112 : decode cX5_selected 112 = .ok (.getfield 289, 3) := by decide +kernel
set_option maxRecDepth 100000 in
theorem dX5_selected_115 : decode cX5_selected 115 = .ok (.bipush 7, 2) := by decide +kernel
set_option maxRecDepth 100000 in
theorem dX5_selected_117 : decode cX5_selected 117 = .ok (.if_icmp .eq 14, 3) := by decide +kernel
set_option maxRecDepth 100000 in
theorem dX5_selected_120 : decode cX5_selected 120 = .ok (.aload_n 0, 1) := by decide +kernel
set_option maxRecDepth 100000 in
theorem dX5_selected_121 : decode cX5_selected 121 = .ok (.bipush 7, 2) := by decide +kernel
set_option maxRecDepth 100000 in
theorem dX5_selected_123 : decode cX5_selected 123 = .ok (.aload_n 2, 1) := by decide +kernel
set_option maxRecDepth 100000 in
theorem dX5_selected_124 : decode cX5_selected 124 = .ok (.invokevirtual 192, 3) := by decide +kernel
set_option maxRecDepth 100000 in
theorem dX5_selected_127 : decode cX5_selected 127 = .ok (.invokevirtual 163, 3) := by decide +kernel
set_option maxRecDepth 100000 in
theorem dX5_selected_130 : decode cX5_selected 130 = .ok (.athrow, 1) := by decide +kernel
set_option maxRecDepth 100000 in
theorem dX5_selected_131 : decode cX5_selected 131 = .ok (.aload_n 1, 1) := by decide +kernel
set_option maxRecDepth 100000 in
theorem dX5_selected_132 : decode cX5_selected 132 = .ok (.aload_n 2, 1) := by decide +kernel
set_option maxRecDepth 100000 in
theorem dX5_selected_133 : decode cX5_selected 133 = .ok (.getfield 251, 3) := by decide +kernel
set_option maxRecDepth 100000 in
theorem dX5_selected_136 : decode cX5_selected 136 = .ok (.invokevirtual 173, 3) := by decide +kernel
set_option maxRecDepth 100000 in
theorem dX5_selected_139 : decode cX5_selected 139 = .ok (.invokevirtual 177, 3) := by decide +kernel
set_option maxRecDepth 100000 in
theorem dX5_selected_142 : decode cX5_selected 142 = .ok (.astore_n 3, 1) := by decide +kernel
set_option maxRecDepth 100000 in
theorem dX5_selected_143 : decode cX5_selected 143 = .ok (.aload_n 3, 1) := by decide +kernel
set_option maxRecDepth 100000 in
theorem dX5_selected_144 : decode cX5_selected 144 = .ok (.ifnonnull 16, 3) := by decide +kernel
set_option maxRecDepth 100000 in
theorem dX5_selected_147 : decode cX5_selected 147 = .ok (.aload_n 0, 1) := by decide +kernel
set_option maxRecDepth 100000 in
theorem dX5_selected_148 : decode cX5_selected 148 = .ok (.iconst 4, 1) := by decide +kernel
set_option maxRecDepth 100000 in
theorem dX5_selected_149 : decode cX5_selected 149 = .ok (.aload_n 2, 1) := by decide +kernel
set_option maxRecDepth 100000 in
theorem dX5_selected_150 : decode cX5_selected 150 = .ok (.getfield 251, 3) := by decide +kernel
set_option maxRecDepth 100000 in
theorem dX5_selected_153 : decode cX5_selected 153 = .ok (.invokevirtual 192, 3) := by decide +kernel
set_option maxRecDepth 100000 in
theorem dX5_selected_156 : decode cX5_selected 156 = .ok (.invokevirtual 163, 3) := by decide +kernel
set_option maxRecDepth 100000 in
theorem dX5_selected_159 : decode cX5_selected 159 = .ok (.athrow, 1) := by decide +kernel
set_option maxRecDepth 100000 in
theorem dX5_selected_160 : decode cX5_selected 160 = .ok (.aload_n 0, 1) := by decide +kernel
set_option maxRecDepth 100000 in
theorem dX5_selected_161 : decode cX5_selected 161 = .ok (.aload_n 3, 1) := by decide +kernel
set_option maxRecDepth 100000 in
theorem dX5_selected_162 : decode cX5_selected 162 = .ok (.aload_n 2, 1) := by decide +kernel
set_option maxRecDepth 100000 in
theorem dX5_selected_163 : decode cX5_selected 163 = .ok (.invokevirtual 192, 3) := by decide +kernel
set_option maxRecDepth 100000 in
theorem dX5_selected_166 : decode cX5_selected 166 = .ok (.invokevirtual 732, 3) := by decide +kernel
set_option maxRecDepth 100000 in
theorem dX5_selected_169 : decode cX5_selected 169 = .ok (.areturn, 1) := by decide +kernel
set_option maxRecDepth 100000 in
theorem dX5_selected_170 : decode cX5_selected 170 = .ok (.aload_n 1, 1) := by decide +kernel
set_option maxRecDepth 100000 in
theorem dX5_selected_171 : decode cX5_selected 171 = .ok (.getfield 289, 3) := by decide +kernel
set_option maxRecDepth 100000 in
theorem dX5_selected_174 : decode cX5_selected 174 = .ok (.bipush 9, 2) := by decide +kernel
set_option maxRecDepth 100000 in
theorem dX5_selected_176 : decode cX5_selected 176 = .ok (.if_icmp .eq 23, 3) := by decide +kernel
set_option maxRecDepth 100000 in
theorem dX5_selected_179 : decode cX5_selected 179 = .ok (.aload_n 1, 1) := by decide +kernel
set_option maxRecDepth 100000 in
theorem dX5_selected_180 : decode cX5_selected 180 = .ok (.getfield 289, 3) := by decide +kernel
set_option maxRecDepth 100000 in
theorem dX5_selected_183 : decode cX5_selected 183 = .ok (.bipush 10, 2) := by decide +kernel
set_option maxRecDepth 100000 in
theorem dX5_selected_185 : decode cX5_selected 185 = .ok (.if_icmp .eq 14, 3) := by decide +kernel
set_option maxRecDepth 100000 in
theorem dX5_selected_188 : decode cX5_selected 188 = .ok (.aload_n 0, 1) := by decide +kernel
set_option maxRecDepth 100000 in
theorem dX5_selected_189 : decode cX5_selected 189 = .ok (.bipush 7, 2) := by decide +kernel
set_option maxRecDepth 100000 in
theorem dX5_selected_191 : decode cX5_selected 191 = .ok (.aload_n 2, 1) := by decide +kernel
set_option maxRecDepth 100000 in
theorem dX5_selected_192 : decode cX5_selected 192 = .ok (.invokevirtual 192, 3) := by decide +kernel
set_option maxRecDepth 100000 in
theorem dX5_selected_195 : decode cX5_selected 195 = .ok (.invokevirtual 163, 3) := by decide +kernel
set_option maxRecDepth 100000 in
theorem dX5_selected_198 : decode cX5_selected 198 = .ok (.athrow, 1) := by decide +kernel
set_option maxRecDepth 100000 in
theorem dX5_selected_199 : decode cX5_selected 199 = .ok (.aload_n 1, 1) := by decide +kernel
set_option maxRecDepth 100000 in
theorem dX5_selected_200 : decode cX5_selected 200 = .ok (.getfield 289, 3) := by decide +kernel
set_option maxRecDepth 100000 in
theorem dX5_selected_203 : decode cX5_selected 203 = .ok (.bipush 10, 2) := by decide +kernel
set_option maxRecDepth 100000 in
theorem dX5_selected_205 : decode cX5_selected 205 = .ok (.if_icmp .ne 19, 3) := by decide +kernel
set_option maxRecDepth 100000 in
theorem dX5_selected_208 : decode cX5_selected 208 = .ok (.aload_n 0, 1) := by decide +kernel
set_option maxRecDepth 100000 in
theorem dX5_selected_209 : decode cX5_selected 209 = .ok (.getfield 62, 3) := by decide +kernel
set_option maxRecDepth 100000 in
theorem dX5_selected_212 : decode cX5_selected 212 = .ok (.iconst 4, 1) := by decide +kernel
set_option maxRecDepth 100000 in
theorem dX5_selected_213 : decode cX5_selected 213 = .ok (.iconst 1, 1) := by decide +kernel
set_option maxRecDepth 100000 in
theorem dX5_selected_214 : decode cX5_selected 214 = .ok (.iconst 0, 1) := by decide +kernel
set_option maxRecDepth 100000 in
theorem dX5_selected_215 : decode cX5_selected 215 = .ok (.iconst 0, 1) := by decide +kernel
set_option maxRecDepth 100000 in
theorem dX5_selected_216 : decode cX5_selected 216 = .ok (.iconst 0, 1) := by decide +kernel
set_option maxRecDepth 100000 in
theorem dX5_selected_217 : decode cX5_selected 217 = .ok (.invokevirtual 506, 3) := by decide +kernel
set_option maxRecDepth 100000 in
theorem dX5_selected_220 : decode cX5_selected 220 = .ok (.pop, 1) := by decide +kernel
set_option maxRecDepth 100000 in
theorem dX5_selected_221 : decode cX5_selected 221 = .ok (.goto 20, 3) := by decide +kernel
set_option maxRecDepth 100000 in
theorem dX5_selected_224 : decode cX5_selected 224 = .ok (.aload_n 0, 1) := by decide +kernel
set_option maxRecDepth 100000 in
theorem dX5_selected_225 : decode cX5_selected 225 = .ok (.getfield 62, 3) := by decide +kernel
set_option maxRecDepth 100000 in
theorem dX5_selected_228 : decode cX5_selected 228 = .ok (.bipush 6, 2) := by decide +kernel
set_option maxRecDepth 100000 in
theorem dX5_selected_230 : decode cX5_selected 230 = .ok (.iconst 0, 1) := by decide +kernel
set_option maxRecDepth 100000 in
theorem dX5_selected_231 : decode cX5_selected 231 = .ok (.iconst 0, 1) := by decide +kernel
set_option maxRecDepth 100000 in
theorem dX5_selected_232 : decode cX5_selected 232 = .ok (.iconst 0, 1) := by decide +kernel
set_option maxRecDepth 100000 in
theorem dX5_selected_233 : decode cX5_selected 233 = .ok (.aload_n 2, 1) := by decide +kernel
set_option maxRecDepth 100000 in
theorem dX5_selected_234 : decode cX5_selected 234 = .ok (.invokevirtual 192, 3) := by decide +kernel
set_option maxRecDepth 100000 in
theorem dX5_selected_237 : decode cX5_selected 237 = .ok (.invokevirtual 506, 3) := by decide +kernel
set_option maxRecDepth 100000 in
theorem dX5_selected_240 : decode cX5_selected 240 = .ok (.pop, 1) := by decide +kernel
set_option maxRecDepth 100000 in
theorem dX5_selected_241 : decode cX5_selected 241 = .ok (.aload_n 0, 1) := by decide +kernel
set_option maxRecDepth 100000 in
theorem dX5_selected_242 : decode cX5_selected 242 = .ok (.aconst_null, 1) := by decide +kernel
set_option maxRecDepth 100000 in
theorem dX5_selected_243 : decode cX5_selected 243 = .ok (.putfield 702, 3) := by decide +kernel
set_option maxRecDepth 100000 in
theorem dX5_selected_246 : decode cX5_selected 246 = .ok (.aload_n 1, 1) := by decide +kernel
set_option maxRecDepth 100000 in
theorem dX5_selected_247 : decode cX5_selected 247 = .ok (.getfield 286, 3) := by decide +kernel
set_option maxRecDepth 100000 in
theorem dX5_selected_250 : decode cX5_selected 250 = .ok (.areturn, 1) := by decide +kernel
set_option maxRecDepth 100000 in
def bX5_selected_241 (G : xG) (fr lo : Nat) (x0 : Nat) (x1 : Nat) (h : xH) (Q : Outcome → xH → Prop) : Prop := tg h x0 = 6 ∧ (∀ h2 : xH, h2 = sR h x0 1302 0 → tg h2 x1 = 7 ∧ Q (.returned (some (rv (fR h2 x1 1538)))) h2)
set_option maxRecDepth 100000 in
theorem uX5_selected_241 {G : xG} {fr lo : Nat} {x0 : Nat} {x1 : Nat} {h : xH} {Q : Outcome → xH → Prop} (hq : bX5_selected_241 G fr lo x0 x1 h Q) : xP G YX5_selected fr lo 241 [(0, rv x0), (1, rv x1)] [] h Q := by
  unfold bX5_selected_241 at hq
  refine x_aload_n 0 dX5_selected_241 rfl ?_
  refine x_null dX5_selected_242 ?_
  obtain ⟨g1, hq⟩ := hq
  obtain ⟨h2, e3⟩ : ∃ y, y = sR h x0 1302 0 := ⟨_, rfl⟩
  replace hq := hq h2 e3
  refine x_putR fdX5_702 xty_O dX5_selected_243 g1 (Or.inl (by rw [g1]; rfl)) rfl e3 ?_
  refine x_aload_n 1 dX5_selected_246 rfl ?_
  obtain ⟨g4, hq⟩ := hq
  refine x_getN (v := rv (fR h2 x1 1538)) gfX5_286 dX5_selected_247 g4 rfl ?_
  exact x_aret rfl xty_O dX5_selected_250 hq
set_option maxRecDepth 100000 in
def bX5_selected_199 (G : xG) (fr lo : Nat) (x0 : Nat) (x1 : Nat) (x2 : Nat) (h : xH) (Q : Outcome → xH → Prop) : Prop := tg h x1 = 7 ∧ ((¬ (fI h x1 1536) = 10 → tg h x0 = 6 ∧ tg h x2 = 16 ∧ 1 ≤ fr ∧ 17 ≤ lo ∧ xRi G YX15_place (fr - 1) (lo - 17) [rv x2] h (fun x8 h7 => xext h h7 → tg h7 (fR h x0 1281) = 3 ∧ 1 ≤ fr ∧ 17 ≤ lo ∧ xRi G YX2_put (fr - 1) (lo - 17) [rv (fR h x0 1281), .int 6, .int 0, .int 0, .int 0, .int x8] h7 (fun x14 h13 => xext h7 h13 → bX5_selected_241 G fr lo x0 x1 h13 Q) (fun r h2 => Q (.threw r) h2)) (fun r h2 => Q (.threw r) h2)) ∧ ((fI h x1 1536) = 10 → tg h x0 = 6 ∧ tg h (fR h x0 1281) = 3 ∧ 1 ≤ fr ∧ 17 ≤ lo ∧ xRi G YX2_put (fr - 1) (lo - 17) [rv (fR h x0 1281), .int 4, .int 1, .int 0, .int 0, .int 0] h (fun x21 h20 => xext h h20 → bX5_selected_241 G fr lo x0 x1 h20 Q) (fun r h2 => Q (.threw r) h2)))
set_option maxRecDepth 100000 in
theorem uX5_selected_199 {G : xG} {fr lo : Nat} {x0 : Nat} {x1 : Nat} {x2 : Nat} {h : xH} {Q : Outcome → xH → Prop} (hq : bX5_selected_199 G fr lo x0 x1 x2 h Q) : xP G YX5_selected fr lo 199 [(0, rv x0), (1, rv x1), (2, rv x2)] [] h Q := by
  unfold bX5_selected_199 at hq
  refine x_aload_n 1 dX5_selected_199 rfl ?_
  obtain ⟨g1, hq⟩ := hq
  refine x_getN (v := .int (fI h x1 1536)) gfX5_289 dX5_selected_200 g1 rfl ?_
  refine x_bipush (v := 10) dX5_selected_203 (by decide) ?_
  refine x_icmp_ne (tgt := 224) dX5_selected_205 (by decide) (fun c2 => ?_) (fun c2 => ?_)
  · replace hq := hq.1 c2
    refine x_aload_n 0 dX5_selected_224 rfl ?_
    obtain ⟨g3, hq⟩ := hq
    refine x_get (v := rv (fR h x0 1281)) fdX5_62 dX5_selected_225 g3 rfl ?_
    refine x_bipush (v := 6) dX5_selected_228 (by decide) ?_
    refine x_iconst (v := 0) dX5_selected_230 (by decide) ?_
    refine x_iconst (v := 0) dX5_selected_231 (by decide) ?_
    refine x_iconst (v := 0) dX5_selected_232 (by decide) ?_
    refine x_aload_n 2 dX5_selected_233 rfl ?_
    obtain ⟨g4, hq⟩ := hq
    obtain ⟨g5, g6, hq⟩ := hq
    refine x_callV (Yc := YX15_place) (as := []) (st := [.int 0, .int 0, .int 0, .int 6, rv (fR h x0 1281)]) q2013 mvX15_place g4 rfl dX5_selected_234 (xle (xal1 (rv_cat _) xal0) (by decide)) (xfr g5) (xlo (xsw1 rfl (xsw1 rfl (xsw1 rfl (xsw1 rfl (xsw1 (rv_cat _) xsw0))))) (by decide) g6) (xKi hq (fun x8 h7 hq e9 => ?_) (fun _ _ q _ => q))
    replace hq := hq e9
    obtain ⟨g10, hq⟩ := hq
    obtain ⟨g11, g12, hq⟩ := hq
    refine x_callV (Yc := YX2_put) (as := [.int 6, .int 0, .int 0, .int 0, .int x8]) (st := []) q2494 mvX2_put g10 rfl dX5_selected_237 (xle (xal1 (rv_cat _) (xal1 rfl (xal1 rfl (xal1 rfl (xal1 rfl (xal1 rfl xal0)))))) (by decide)) (xfr g11) (xlo xsw0 (by decide) g12) (xKi hq (fun x14 h13 hq e15 => ?_) (fun _ _ q _ => q))
    replace hq := hq e15
    refine x_pop dX5_selected_240 rfl ?_
    refine xP.pick (lv' := [(0, rv x0), (1, rv x1)]) [0, 1] rfl ?_
    exact uX5_selected_241 hq
  · replace hq := hq.2 c2
    refine x_aload_n 0 dX5_selected_208 rfl ?_
    obtain ⟨g16, hq⟩ := hq
    refine x_get (v := rv (fR h x0 1281)) fdX5_62 dX5_selected_209 g16 rfl ?_
    refine x_iconst (v := 4) dX5_selected_212 (by decide) ?_
    refine x_iconst (v := 1) dX5_selected_213 (by decide) ?_
    refine x_iconst (v := 0) dX5_selected_214 (by decide) ?_
    refine x_iconst (v := 0) dX5_selected_215 (by decide) ?_
    refine x_iconst (v := 0) dX5_selected_216 (by decide) ?_
    obtain ⟨g17, hq⟩ := hq
    obtain ⟨g18, g19, hq⟩ := hq
    refine x_callV (Yc := YX2_put) (as := [.int 4, .int 1, .int 0, .int 0, .int 0]) (st := []) q2494 mvX2_put g17 rfl dX5_selected_217 (xle (xal1 (rv_cat _) (xal1 rfl (xal1 rfl (xal1 rfl (xal1 rfl (xal1 rfl xal0)))))) (by decide)) (xfr g18) (xlo xsw0 (by decide) g19) (xKi hq (fun x21 h20 hq e22 => ?_) (fun _ _ q _ => q))
    replace hq := hq e22
    refine x_pop dX5_selected_220 rfl ?_
    refine x_goto (tgt := 241) dX5_selected_221 (by decide) ?_
    refine xP.pick (lv' := [(0, rv x0), (1, rv x1)]) [0, 1] rfl ?_
    exact uX5_selected_241 hq
set_option maxRecDepth 100000 in
def bX5_selected (G : xG) (fr lo : Nat) (x0 : Nat) (x1 : Nat) (x2 : Nat) (h : xH) (Q : Outcome → xH → Prop) : Prop := tg h x2 = 16 ∧ ((¬ (fI h x2 3840) = 59 → ((¬ (fI h x2 3840) = 60 → tg h x1 = 7 ∧ (((fI h x1 1536) = 9 → bX5_selected_199 G fr lo x0 x1 x2 h Q) ∧ (¬ (fI h x1 1536) = 9 → (((fI h x1 1536) = 10 → bX5_selected_199 G fr lo x0 x1 x2 h Q) ∧ (¬ (fI h x1 1536) = 10 → 1 ≤ fr ∧ 14 ≤ lo ∧ xRi G YX15_place (fr - 1) (lo - 14) [rv x2] h (fun x10 h9 => xext h h9 → tg h9 x0 = 6 ∧ 1 ≤ fr ∧ 14 ≤ lo ∧ xRr G YX5_fault (fr - 1) (lo - 14) [rv x0, .int 7, .int x10] h9 (fun x16 h15 => xext h9 h15 → (∃ r18, x16 = r18 + 1 ∧ Q (.threw r18) h15)) (fun r h2 => Q (.threw r) h2)) (fun r h2 => Q (.threw r) h2)))))) ∧ ((fI h x2 3840) = 60 → tg h x1 = 7 ∧ (((fI h x1 1536) = 7 → tg h (fR h x2 3842) = 16 ∧ 1 ≤ fr ∧ 13 ≤ lo ∧ xRr G YX15_text (fr - 1) (lo - 13) [rv (fR h x2 3842)] h (fun x26 h25 => xext h h25 → 1 ≤ fr ∧ 14 ≤ lo ∧ xRr G YX6_field (fr - 1) (lo - 14) [rv x1, rv x26] h25 (fun x32 h31 => xext h25 h31 → ((¬ x32 = 0 → 1 ≤ fr ∧ 14 ≤ lo ∧ xRi G YX15_place (fr - 1) (lo - 14) [rv x2] h31 (fun x40 h39 => xext h31 h39 → tg h39 x0 = 6 ∧ 1 ≤ fr ∧ 14 ≤ lo ∧ xRr G YX5_fieldOf (fr - 1) (lo - 14) [rv x0, rv x32, .int x40] h39 (fun x46 h45 => xext h39 h45 → Q (.returned (some (rv x46))) h45) (fun r h2 => Q (.threw r) h2)) (fun r h2 => Q (.threw r) h2)) ∧ (x32 = 0 → tg h31 (fR h31 x2 3842) = 16 ∧ 1 ≤ fr ∧ 14 ≤ lo ∧ xRi G YX15_place (fr - 1) (lo - 14) [rv (fR h31 x2 3842)] h31 (fun x54 h53 => xext h31 h53 → tg h53 x0 = 6 ∧ 1 ≤ fr ∧ 14 ≤ lo ∧ xRr G YX5_fault (fr - 1) (lo - 14) [rv x0, .int 4, .int x54] h53 (fun x60 h59 => xext h53 h59 → (∃ r62, x60 = r62 + 1 ∧ Q (.threw r62) h59)) (fun r h2 => Q (.threw r) h2)) (fun r h2 => Q (.threw r) h2)))) (fun r h2 => Q (.threw r) h2)) (fun r h2 => Q (.threw r) h2)) ∧ (¬ (fI h x1 1536) = 7 → 1 ≤ fr ∧ 14 ≤ lo ∧ xRi G YX15_place (fr - 1) (lo - 14) [rv x2] h (fun x67 h66 => xext h h66 → tg h66 x0 = 6 ∧ 1 ≤ fr ∧ 14 ≤ lo ∧ xRr G YX5_fault (fr - 1) (lo - 14) [rv x0, .int 7, .int x67] h66 (fun x73 h72 => xext h66 h72 → (∃ r75, x73 = r75 + 1 ∧ Q (.threw r75) h72)) (fun r h2 => Q (.threw r) h2)) (fun r h2 => Q (.threw r) h2)))))) ∧ ((fI h x2 3840) = 59 → tg h x1 = 7 ∧ (((fI h x1 1536) = 6 → tg h x0 = 6 ∧ 1 ≤ fr ∧ 14 ≤ lo ∧ xRr G YX5_expression (fr - 1) (lo - 14) [rv x0, rv (fR h x2 3842)] h (fun x83 h82 => xext h h82 → tg h82 (fR h x1 1539) = 7 ∧ 1 ≤ fr ∧ 13 ≤ lo ∧ xRi G YX6_takes (fr - 1) (lo - 13) [rv (fR h x1 1539), rv x83] h82 (fun x89 h88 => xext h82 h88 → ((¬ x89 = 0 → tg h88 (fR h88 x1 1539) = 7 ∧ tg h88 (fR h88 x1 1538) = 7 ∧ 1 ≤ fr ∧ 17 ≤ lo ∧ xRi G YX15_place (fr - 1) (lo - 17) [rv x2] h88 (fun x103 h102 => xext h88 h102 → tg h102 (fR h88 x0 1281) = 3 ∧ 1 ≤ fr ∧ 17 ≤ lo ∧ xRi G YX2_put (fr - 1) (lo - 17) [rv (fR h88 x0 1281), .int 5, .int (fI h88 (fR h88 x1 1539) 1541), .int (fI h88 (fR h88 x1 1539) 1542), .int (fI h88 (fR h88 x1 1538) 1543), .int x103] h102 (fun x109 h108 => xext h102 h108 → (∀ h113 : xH, h113 = sR h108 x0 1302 0 → Q (.returned (some (rv (fR h113 x1 1538)))) h113)) (fun r h2 => Q (.threw r) h2)) (fun r h2 => Q (.threw r) h2)) ∧ (x89 = 0 → 1 ≤ fr ∧ 14 ≤ lo ∧ xRi G YX15_place (fr - 1) (lo - 14) [rv x2] h88 (fun x123 h122 => xext h88 h122 → 1 ≤ fr ∧ 14 ≤ lo ∧ xRr G YX5_fault (fr - 1) (lo - 14) [rv x0, .int 7, .int x123] h122 (fun x131 h130 => xext h122 h130 → (∃ r133, x131 = r133 + 1 ∧ Q (.threw r133) h130)) (fun r h2 => Q (.threw r) h2)) (fun r h2 => Q (.threw r) h2)))) (fun r h2 => Q (.threw r) h2)) (fun r h2 => Q (.threw r) h2)) ∧ (¬ (fI h x1 1536) = 6 → 1 ≤ fr ∧ 14 ≤ lo ∧ xRi G YX15_place (fr - 1) (lo - 14) [rv x2] h (fun x138 h137 => xext h h137 → tg h137 x0 = 6 ∧ 1 ≤ fr ∧ 14 ≤ lo ∧ xRr G YX5_fault (fr - 1) (lo - 14) [rv x0, .int 7, .int x138] h137 (fun x144 h143 => xext h137 h143 → (∃ r146, x144 = r146 + 1 ∧ Q (.threw r146) h143)) (fun r h2 => Q (.threw r) h2)) (fun r h2 => Q (.threw r) h2)))))
set_option maxRecDepth 100000 in
theorem uX5_selected {G : xG} {fr lo : Nat} {x0 : Nat} {x1 : Nat} {x2 : Nat} {h : xH} {Q : Outcome → xH → Prop} (hq : bX5_selected G fr lo x0 x1 x2 h Q) : xP G YX5_selected fr lo 0 [(0, rv x0), (1, rv x1), (2, rv x2)] [] h Q := by
  unfold bX5_selected at hq
  refine x_aload_n 2 dX5_selected_0 rfl ?_
  obtain ⟨g1, hq⟩ := hq
  refine x_getN (v := .int (fI h x2 3840)) gfX5_264 dX5_selected_1 g1 rfl ?_
  refine x_bipush (v := 59) dX5_selected_4 (by decide) ?_
  refine x_icmp_ne (tgt := 102) dX5_selected_6 (by decide) (fun c2 => ?_) (fun c2 => ?_)
  · replace hq := hq.1 c2
    refine x_aload_n 2 dX5_selected_102 rfl ?_
    refine x_getN (v := .int (fI h x2 3840)) gfX5_264 dX5_selected_103 g1 rfl ?_
    refine x_bipush (v := 60) dX5_selected_106 (by decide) ?_
    refine x_icmp_ne (tgt := 170) dX5_selected_108 (by decide) (fun c3 => ?_) (fun c3 => ?_)
    · replace hq := hq.1 c3
      refine x_aload_n 1 dX5_selected_170 rfl ?_
      obtain ⟨g4, hq⟩ := hq
      refine x_getN (v := .int (fI h x1 1536)) gfX5_289 dX5_selected_171 g4 rfl ?_
      refine x_bipush (v := 9) dX5_selected_174 (by decide) ?_
      refine x_icmp_eq (tgt := 199) dX5_selected_176 (by decide) (fun c5 => ?_) (fun c5 => ?_)
      · replace hq := hq.1 c5
        exact uX5_selected_199 hq
      · replace hq := hq.2 c5
        refine x_aload_n 1 dX5_selected_179 rfl ?_
        refine x_getN (v := .int (fI h x1 1536)) gfX5_289 dX5_selected_180 g4 rfl ?_
        refine x_bipush (v := 10) dX5_selected_183 (by decide) ?_
        refine x_icmp_eq (tgt := 199) dX5_selected_185 (by decide) (fun c6 => ?_) (fun c6 => ?_)
        · replace hq := hq.1 c6
          exact uX5_selected_199 hq
        · replace hq := hq.2 c6
          refine x_aload_n 0 dX5_selected_188 rfl ?_
          refine x_bipush (v := 7) dX5_selected_189 (by decide) ?_
          refine x_aload_n 2 dX5_selected_191 rfl ?_
          obtain ⟨g7, g8, hq⟩ := hq
          refine x_callV (Yc := YX15_place) (as := []) (st := [.int 7, rv x0]) q2013 mvX15_place g1 rfl dX5_selected_192 (xle (xal1 (rv_cat _) xal0) (by decide)) (xfr g7) (xlo (xsw1 rfl (xsw1 (rv_cat _) xsw0)) (by decide) g8) (xKi hq (fun x10 h9 hq e11 => ?_) (fun _ _ q _ => q))
          replace hq := hq e11
          obtain ⟨g12, hq⟩ := hq
          obtain ⟨g13, g14, hq⟩ := hq
          refine x_callV (Yc := YX5_fault) (as := [.int 7, .int x10]) (st := []) q2087 mvX5_fault g12 rfl dX5_selected_195 (xle (xal1 (rv_cat _) (xal1 rfl (xal1 rfl xal0))) (by decide)) (xfr g13) (xlo xsw0 (by decide) g14) (xKr hq (fun x16 h15 hq e17 => ?_) (fun _ _ q _ => q))
          replace hq := hq e17
          obtain ⟨r18, g19, hq⟩ := hq
          rw [g19]
          exact x_athrow dX5_selected_198 hq
    · replace hq := hq.2 c3
      refine x_aload_n 1 dX5_selected_111 rfl ?_
      obtain ⟨g20, hq⟩ := hq
      refine x_getN (v := .int (fI h x1 1536)) gfX5_289 dX5_selected_112 g20 rfl ?_
      refine x_bipush (v := 7) dX5_selected_115 (by decide) ?_
      refine x_icmp_eq (tgt := 131) dX5_selected_117 (by decide) (fun c21 => ?_) (fun c21 => ?_)
      · replace hq := hq.1 c21
        refine x_aload_n 1 dX5_selected_131 rfl ?_
        refine x_aload_n 2 dX5_selected_132 rfl ?_
        refine x_getN (v := rv (fR h x2 3842)) gfX5_251 dX5_selected_133 g1 rfl ?_
        obtain ⟨g22, hq⟩ := hq
        obtain ⟨g23, g24, hq⟩ := hq
        refine x_callV (Yc := YX15_text) (as := []) (st := [rv x1]) q2009 mvX15_text g22 rfl dX5_selected_136 (xle (xal1 (rv_cat _) xal0) (by decide)) (xfr g23) (xlo (xsw1 (rv_cat _) xsw0) (by decide) g24) (xKr hq (fun x26 h25 hq e27 => ?_) (fun _ _ q _ => q))
        replace hq := hq e27
        have t28 : tg h25 x1 = 7 := e27.tg g20 (by decide)
        obtain ⟨g29, g30, hq⟩ := hq
        refine x_callV (Yc := YX6_field) (as := [rv x26]) (st := []) q2250 mvX6_field t28 rfl dX5_selected_139 (xle (xal1 (rv_cat _) (xal1 (rv_cat _) xal0)) (by decide)) (xfr g29) (xlo xsw0 (by decide) g30) (xKr hq (fun x32 h31 hq e33 => ?_) (fun _ _ q _ => q))
        replace hq := hq e33
        refine x_astore_n (lv' := [(3, rv x32), (0, rv x0), (1, rv x1), (2, rv x2)]) dX5_selected_142 (by decide) (by first | rfl | (simp [rv_cat, Value.category]; done) | (simp [rv_cat, Value.category]; decide)) ?_
        refine x_aload_n 0 dX5_selected_143 rfl ?_
        refine x_ifnonnull (tgt := 160) dX5_selected_144 (by decide) (fun c34 => ?_) (fun c34 => ?_)
        · replace hq := hq.1 c34
          refine x_aload_n 1 dX5_selected_160 rfl ?_
          refine x_aload_n 0 dX5_selected_161 rfl ?_
          refine x_aload_n 3 dX5_selected_162 rfl ?_
          have t35 : tg h25 x2 = 16 := e27.tg g1 (by decide)
          have t36 : tg h31 x2 = 16 := e33.tg t35 (by decide)
          obtain ⟨g37, g38, hq⟩ := hq
          refine x_callV (Yc := YX15_place) (as := []) (st := [rv x32, rv x0]) q2013 mvX15_place t36 rfl dX5_selected_163 (xle (xal1 (rv_cat _) xal0) (by decide)) (xfr g37) (xlo (xsw1 (rv_cat _) (xsw1 (rv_cat _) xsw0)) (by decide) g38) (xKi hq (fun x40 h39 hq e41 => ?_) (fun _ _ q _ => q))
          replace hq := hq e41
          obtain ⟨g42, hq⟩ := hq
          obtain ⟨g43, g44, hq⟩ := hq
          refine x_callV (Yc := YX5_fieldOf) (as := [rv x32, .int x40]) (st := []) q2598 mvX5_fieldOf g42 rfl dX5_selected_166 (xle (xal1 (rv_cat _) (xal1 (rv_cat _) (xal1 rfl xal0))) (by decide)) (xfr g43) (xlo xsw0 (by decide) g44) (xKr hq (fun x46 h45 hq e47 => ?_) (fun _ _ q _ => q))
          replace hq := hq e47
          exact x_aret rfl xty_O dX5_selected_169 hq
        · replace hq := hq.2 c34
          refine x_aload_n 1 dX5_selected_147 rfl ?_
          refine x_iconst (v := 4) dX5_selected_148 (by decide) ?_
          refine x_aload_n 3 dX5_selected_149 rfl ?_
          have t48 : tg h25 x2 = 16 := e27.tg g1 (by decide)
          have t49 : tg h31 x2 = 16 := e33.tg t48 (by decide)
          refine x_getN (v := rv (fR h31 x2 3842)) gfX5_251 dX5_selected_150 t49 rfl ?_
          obtain ⟨g50, hq⟩ := hq
          obtain ⟨g51, g52, hq⟩ := hq
          refine x_callV (Yc := YX15_place) (as := []) (st := [.int 4, rv x0]) q2013 mvX15_place g50 rfl dX5_selected_153 (xle (xal1 (rv_cat _) xal0) (by decide)) (xfr g51) (xlo (xsw1 rfl (xsw1 (rv_cat _) xsw0)) (by decide) g52) (xKi hq (fun x54 h53 hq e55 => ?_) (fun _ _ q _ => q))
          replace hq := hq e55
          obtain ⟨g56, hq⟩ := hq
          obtain ⟨g57, g58, hq⟩ := hq
          refine x_callV (Yc := YX5_fault) (as := [.int 4, .int x54]) (st := []) q2087 mvX5_fault g56 rfl dX5_selected_156 (xle (xal1 (rv_cat _) (xal1 rfl (xal1 rfl xal0))) (by decide)) (xfr g57) (xlo xsw0 (by decide) g58) (xKr hq (fun x60 h59 hq e61 => ?_) (fun _ _ q _ => q))
          replace hq := hq e61
          obtain ⟨r62, g63, hq⟩ := hq
          rw [g63]
          exact x_athrow dX5_selected_159 hq
      · replace hq := hq.2 c21
        refine x_aload_n 0 dX5_selected_120 rfl ?_
        refine x_bipush (v := 7) dX5_selected_121 (by decide) ?_
        refine x_aload_n 2 dX5_selected_123 rfl ?_
        obtain ⟨g64, g65, hq⟩ := hq
        refine x_callV (Yc := YX15_place) (as := []) (st := [.int 7, rv x0]) q2013 mvX15_place g1 rfl dX5_selected_124 (xle (xal1 (rv_cat _) xal0) (by decide)) (xfr g64) (xlo (xsw1 rfl (xsw1 (rv_cat _) xsw0)) (by decide) g65) (xKi hq (fun x67 h66 hq e68 => ?_) (fun _ _ q _ => q))
        replace hq := hq e68
        obtain ⟨g69, hq⟩ := hq
        obtain ⟨g70, g71, hq⟩ := hq
        refine x_callV (Yc := YX5_fault) (as := [.int 7, .int x67]) (st := []) q2087 mvX5_fault g69 rfl dX5_selected_127 (xle (xal1 (rv_cat _) (xal1 rfl (xal1 rfl xal0))) (by decide)) (xfr g70) (xlo xsw0 (by decide) g71) (xKr hq (fun x73 h72 hq e74 => ?_) (fun _ _ q _ => q))
        replace hq := hq e74
        obtain ⟨r75, g76, hq⟩ := hq
        rw [g76]
        exact x_athrow dX5_selected_130 hq
  · replace hq := hq.2 c2
    refine x_aload_n 1 dX5_selected_9 rfl ?_
    obtain ⟨g77, hq⟩ := hq
    refine x_getN (v := .int (fI h x1 1536)) gfX5_289 dX5_selected_10 g77 rfl ?_
    refine x_bipush (v := 6) dX5_selected_13 (by decide) ?_
    refine x_icmp_eq (tgt := 29) dX5_selected_15 (by decide) (fun c78 => ?_) (fun c78 => ?_)
    · replace hq := hq.1 c78
      refine x_aload_n 1 dX5_selected_29 rfl ?_
      refine x_getN (v := rv (fR h x1 1539)) gfX5_343 dX5_selected_30 g77 rfl ?_
      refine x_aload_n 0 dX5_selected_33 rfl ?_
      refine x_aload_n 2 dX5_selected_34 rfl ?_
      refine x_getN (v := rv (fR h x2 3842)) gfX5_251 dX5_selected_35 g1 rfl ?_
      obtain ⟨g79, hq⟩ := hq
      obtain ⟨g80, g81, hq⟩ := hq
      refine x_callV (Yc := YX5_expression) (as := [rv (fR h x2 3842)]) (st := [rv (fR h x1 1539)]) q2522 mvX5_expression g79 rfl dX5_selected_38 (xle (xal1 (rv_cat _) (xal1 (rv_cat _) xal0)) (by decide)) (xfr g80) (xlo (xsw1 (rv_cat _) xsw0) (by decide) g81) (xKr hq (fun x83 h82 hq e84 => ?_) (fun _ _ q _ => q))
      replace hq := hq e84
      obtain ⟨g85, hq⟩ := hq
      obtain ⟨g86, g87, hq⟩ := hq
      refine x_callV (Yc := YX6_takes) (as := [rv x83]) (st := []) q2565 mvX6_takes g85 rfl dX5_selected_41 (xle (xal1 (rv_cat _) (xal1 (rv_cat _) xal0)) (by decide)) (xfr g86) (xlo xsw0 (by decide) g87) (xKi hq (fun x89 h88 hq e90 => ?_) (fun _ _ q _ => q))
      replace hq := hq e90
      refine x_if_ne (tgt := 58) dX5_selected_44 (by decide) (fun c91 => ?_) (fun c91 => ?_)
      · replace hq := hq.1 c91
        refine x_aload_n 0 dX5_selected_58 rfl ?_
        have t92 : tg h82 x0 = 6 := e84.tg g79 (by decide)
        have t93 : tg h88 x0 = 6 := e90.tg t92 (by decide)
        refine x_get (v := rv (fR h88 x0 1281)) fdX5_62 dX5_selected_59 t93 rfl ?_
        refine x_iconst (v := 5) dX5_selected_62 (by decide) ?_
        refine x_aload_n 1 dX5_selected_63 rfl ?_
        have t94 : tg h82 x1 = 7 := e84.tg g77 (by decide)
        have t95 : tg h88 x1 = 7 := e90.tg t94 (by decide)
        refine x_getN (v := rv (fR h88 x1 1539)) gfX5_343 dX5_selected_64 t95 rfl ?_
        obtain ⟨g96, hq⟩ := hq
        refine x_getN (v := .int (fI h88 (fR h88 x1 1539) 1541)) gfX5_338 dX5_selected_67 g96 rfl ?_
        refine x_aload_n 1 dX5_selected_70 rfl ?_
        refine x_getN (v := rv (fR h88 x1 1539)) gfX5_343 dX5_selected_71 t95 rfl ?_
        refine x_getN (v := .int (fI h88 (fR h88 x1 1539) 1542)) gfX5_335 dX5_selected_74 g96 rfl ?_
        refine x_aload_n 1 dX5_selected_77 rfl ?_
        refine x_getN (v := rv (fR h88 x1 1538)) gfX5_286 dX5_selected_78 t95 rfl ?_
        obtain ⟨g97, hq⟩ := hq
        refine x_getN (v := .int (fI h88 (fR h88 x1 1538) 1543)) gfX5_66 dX5_selected_81 g97 rfl ?_
        refine x_aload_n 2 dX5_selected_84 rfl ?_
        have t98 : tg h82 x2 = 16 := e84.tg g1 (by decide)
        have t99 : tg h88 x2 = 16 := e90.tg t98 (by decide)
        obtain ⟨g100, g101, hq⟩ := hq
        refine x_callV (Yc := YX15_place) (as := []) (st := [.int (fI h88 (fR h88 x1 1538) 1543), .int (fI h88 (fR h88 x1 1539) 1542), .int (fI h88 (fR h88 x1 1539) 1541), .int 5, rv (fR h88 x0 1281)]) q2013 mvX15_place t99 rfl dX5_selected_85 (xle (xal1 (rv_cat _) xal0) (by decide)) (xfr g100) (xlo (xsw1 rfl (xsw1 rfl (xsw1 rfl (xsw1 rfl (xsw1 (rv_cat _) xsw0))))) (by decide) g101) (xKi hq (fun x103 h102 hq e104 => ?_) (fun _ _ q _ => q))
        replace hq := hq e104
        obtain ⟨g105, hq⟩ := hq
        obtain ⟨g106, g107, hq⟩ := hq
        refine x_callV (Yc := YX2_put) (as := [.int 5, .int (fI h88 (fR h88 x1 1539) 1541), .int (fI h88 (fR h88 x1 1539) 1542), .int (fI h88 (fR h88 x1 1538) 1543), .int x103]) (st := []) q2494 mvX2_put g105 rfl dX5_selected_88 (xle (xal1 (rv_cat _) (xal1 rfl (xal1 rfl (xal1 rfl (xal1 rfl (xal1 rfl xal0)))))) (by decide)) (xfr g106) (xlo xsw0 (by decide) g107) (xKi hq (fun x109 h108 hq e110 => ?_) (fun _ _ q _ => q))
        replace hq := hq e110
        refine x_pop dX5_selected_91 rfl ?_
        refine x_aload_n 0 dX5_selected_92 rfl ?_
        refine x_null dX5_selected_93 ?_
        have t111 : tg h102 x0 = 6 := e104.tg t93 (by decide)
        have t112 : tg h108 x0 = 6 := e110.tg t111 (by decide)
        obtain ⟨h113, e114⟩ : ∃ y, y = sR h108 x0 1302 0 := ⟨_, rfl⟩
        replace hq := hq h113 e114
        refine x_putR fdX5_702 xty_O dX5_selected_94 t112 (Or.inl (by rw [t112]; rfl)) rfl e114 ?_
        refine x_aload_n 1 dX5_selected_97 rfl ?_
        have t115 : tg h102 x1 = 7 := e104.tg t95 (by decide)
        have t116 : tg h108 x1 = 7 := e110.tg t115 (by decide)
        have t117 : tg h113 x1 = 7 := by rw [e114]; exact t116
        refine x_getN (v := rv (fR h113 x1 1538)) gfX5_286 dX5_selected_98 t117 rfl ?_
        exact x_aret rfl xty_O dX5_selected_101 hq
      · replace hq := hq.2 c91
        refine x_aload_n 0 dX5_selected_47 rfl ?_
        refine x_bipush (v := 7) dX5_selected_48 (by decide) ?_
        refine x_aload_n 2 dX5_selected_50 rfl ?_
        have t118 : tg h82 x2 = 16 := e84.tg g1 (by decide)
        have t119 : tg h88 x2 = 16 := e90.tg t118 (by decide)
        obtain ⟨g120, g121, hq⟩ := hq
        refine x_callV (Yc := YX15_place) (as := []) (st := [.int 7, rv x0]) q2013 mvX15_place t119 rfl dX5_selected_51 (xle (xal1 (rv_cat _) xal0) (by decide)) (xfr g120) (xlo (xsw1 rfl (xsw1 (rv_cat _) xsw0)) (by decide) g121) (xKi hq (fun x123 h122 hq e124 => ?_) (fun _ _ q _ => q))
        replace hq := hq e124
        have t125 : tg h82 x0 = 6 := e84.tg g79 (by decide)
        have t126 : tg h88 x0 = 6 := e90.tg t125 (by decide)
        have t127 : tg h122 x0 = 6 := e124.tg t126 (by decide)
        obtain ⟨g128, g129, hq⟩ := hq
        refine x_callV (Yc := YX5_fault) (as := [.int 7, .int x123]) (st := []) q2087 mvX5_fault t127 rfl dX5_selected_54 (xle (xal1 (rv_cat _) (xal1 rfl (xal1 rfl xal0))) (by decide)) (xfr g128) (xlo xsw0 (by decide) g129) (xKr hq (fun x131 h130 hq e132 => ?_) (fun _ _ q _ => q))
        replace hq := hq e132
        obtain ⟨r133, g134, hq⟩ := hq
        rw [g134]
        exact x_athrow dX5_selected_57 hq
    · replace hq := hq.2 c78
      refine x_aload_n 0 dX5_selected_18 rfl ?_
      refine x_bipush (v := 7) dX5_selected_19 (by decide) ?_
      refine x_aload_n 2 dX5_selected_21 rfl ?_
      obtain ⟨g135, g136, hq⟩ := hq
      refine x_callV (Yc := YX15_place) (as := []) (st := [.int 7, rv x0]) q2013 mvX15_place g1 rfl dX5_selected_22 (xle (xal1 (rv_cat _) xal0) (by decide)) (xfr g135) (xlo (xsw1 rfl (xsw1 (rv_cat _) xsw0)) (by decide) g136) (xKi hq (fun x138 h137 hq e139 => ?_) (fun _ _ q _ => q))
      replace hq := hq e139
      obtain ⟨g140, hq⟩ := hq
      obtain ⟨g141, g142, hq⟩ := hq
      refine x_callV (Yc := YX5_fault) (as := [.int 7, .int x138]) (st := []) q2087 mvX5_fault g140 rfl dX5_selected_25 (xle (xal1 (rv_cat _) (xal1 rfl (xal1 rfl xal0))) (by decide)) (xfr g141) (xlo xsw0 (by decide) g142) (xKr hq (fun x144 h143 hq e145 => ?_) (fun _ _ q _ => q))
      replace hq := hq e145
      obtain ⟨r146, g147, hq⟩ := hq
      rw [g147]
      exact x_athrow dX5_selected_28 hq
theorem rX5_selected {G : xG} {fr lo : Nat} {x0 : Nat} {x1 : Nat} {x2 : Nat} {h : xH} {Q : Outcome → xH → Prop} (hq : bX5_selected G fr lo x0 x1 x2 h Q) : xR G YX5_selected fr lo [rv x0, rv x1, rv x2] h Q := by
  show xP _ _ _ _ _ (lv_args 0 _) _ _ _
  rw [show lv_args 0 [rv x0, rv x1, rv x2] = [(0, rv x0), (1, rv x1), (2, rv x2)] from (xla1 (rv_cat _) (xla1 (rv_cat _) (xla1 (rv_cat _) xla0)))]
  exact uX5_selected hq
set_option maxRecDepth 100000 in
theorem dX5_threaten_0 : decode cX5_threaten 0 = .ok (.aload_n 1, 1) := by decide +kernel
set_option maxRecDepth 100000 in
theorem dX5_threaten_1 : decode cX5_threaten 1 = .ok (.ifnonnull 4, 3) := by decide +kernel
set_option maxRecDepth 100000 in
theorem dX5_threaten_4 : decode cX5_threaten 4 = .ok (.return_, 1) := by decide +kernel
set_option maxRecDepth 100000 in
theorem dX5_threaten_5 : decode cX5_threaten 5 = .ok (.aload_n 1, 1) := by decide +kernel
set_option maxRecDepth 100000 in
theorem dX5_threaten_6 : decode cX5_threaten 6 = .ok (.getfield 671, 3) := by decide +kernel
set_option maxRecDepth 100000 in
theorem dX5_threaten_9 : decode cX5_threaten 9 = .ok (.ifCond .le 11, 3) := by decide +kernel
set_option maxRecDepth 100000 in
theorem dX5_threaten_12 : decode cX5_threaten 12 = .ok (.aload_n 0, 1) := by decide +kernel
set_option maxRecDepth 100000 in
theorem dX5_threaten_13 : decode cX5_threaten 13 = .ok (.bipush 11, 2) := by decide +kernel
set_option maxRecDepth 100000 in
theorem dX5_threaten_15 : decode cX5_threaten 15 = .ok (.iload_n 2, 1) := by decide +kernel
set_option maxRecDepth 100000 in
theorem dX5_threaten_16 : decode cX5_threaten 16 = .ok (.invokevirtual 163, 3) := by decide +kernel
set_option maxRecDepth 100000 in
theorem dX5_threaten_19 : decode cX5_threaten 19 = .ok (.athrow, 1) := by decide +kernel
set_option maxRecDepth 100000 in
theorem dX5_threaten_20 : decode cX5_threaten 20 = .ok (.aload_n 1, 1) := by decide +kernel
set_option maxRecDepth 100000 in
theorem dX5_threaten_21 : decode cX5_threaten 21 = .ok (.getfield 450, 3) := by decide +kernel
set_option maxRecDepth 100000 in
theorem dX5_threaten_24 : decode cX5_threaten 24 = .ok (.aload_n 0, 1) := by decide +kernel
set_option maxRecDepth 100000 in
theorem dX5_threaten_25 : decode cX5_threaten 25 = .ok (.getfield 416, 3) := by decide +kernel
set_option maxRecDepth 100000 in
theorem dX5_threaten_28 : decode cX5_threaten 28 = .ok (.getfield 447, 3) := by decide +kernel
set_option maxRecDepth 100000 in
theorem dX5_threaten_31 : decode cX5_threaten 31 = .ok (.if_icmp .ge 8, 3) := by decide +kernel
set_option maxRecDepth 100000 in
theorem dX5_threaten_34 : decode cX5_threaten 34 = .ok (.aload_n 1, 1) := by decide +kernel
set_option maxRecDepth 100000 in
theorem dX5_threaten_35 : decode cX5_threaten 35 = .ok (.iconst 1, 1) := by decide +kernel
set_option maxRecDepth 100000 in
theorem dX5_threaten_36 : decode cX5_threaten 36 = .ok (.putfield 668, 3) := by decide +kernel
set_option maxRecDepth 100000 in
theorem dX5_threaten_39 : decode cX5_threaten 39 = .ok (.return_, 1) := by decide +kernel
set_option maxRecDepth 100000 in
def bX5_threaten_39 (G : xG) (fr lo : Nat) (h : xH) (Q : Outcome → xH → Prop) : Prop := Q (.returned none) h
set_option maxRecDepth 100000 in
theorem uX5_threaten_39 {G : xG} {fr lo : Nat} {h : xH} {Q : Outcome → xH → Prop} (hq : bX5_threaten_39 G fr lo h Q) : xP G YX5_threaten fr lo 39 [] [] h Q := by
  unfold bX5_threaten_39 at hq
  exact x_vret rfl dX5_threaten_39 hq
set_option maxRecDepth 100000 in
def bX5_threaten (G : xG) (fr lo : Nat) (x0 : Nat) (x1 : Nat) (x2 : Int32) (h : xH) (Q : Outcome → xH → Prop) : Prop := ((¬ x1 = 0 → tg h x1 = 9 ∧ (((fI h x1 2054) ≤ 0 → tg h x0 = 6 ∧ tg h (fR h x0 1295) = 17 ∧ (((fI h (fR h x0 1295) 4102) ≤ (fI h x1 2052) → bX5_threaten_39 G fr lo h Q) ∧ (¬ (fI h (fR h x0 1295) 4102) ≤ (fI h x1 2052) → (∀ h7 : xH, h7 = sI h x1 2058 1 → bX5_threaten_39 G fr lo h7 Q)))) ∧ (¬ (fI h x1 2054) ≤ 0 → tg h x0 = 6 ∧ 1 ≤ fr ∧ 14 ≤ lo ∧ xRr G YX5_fault (fr - 1) (lo - 14) [rv x0, .int 11, .int x2] h (fun x13 h12 => xext h h12 → (∃ r15, x13 = r15 + 1 ∧ Q (.threw r15) h12)) (fun r h2 => Q (.threw r) h2)))) ∧ (x1 = 0 → Q (.returned none) h))
set_option maxRecDepth 100000 in
theorem uX5_threaten {G : xG} {fr lo : Nat} {x0 : Nat} {x1 : Nat} {x2 : Int32} {h : xH} {Q : Outcome → xH → Prop} (hq : bX5_threaten G fr lo x0 x1 x2 h Q) : xP G YX5_threaten fr lo 0 [(0, rv x0), (1, rv x1), (2, .int x2)] [] h Q := by
  unfold bX5_threaten at hq
  refine x_aload_n 1 dX5_threaten_0 rfl ?_
  refine x_ifnonnull (tgt := 5) dX5_threaten_1 (by decide) (fun c1 => ?_) (fun c1 => ?_)
  · replace hq := hq.1 c1
    refine x_aload_n 1 dX5_threaten_5 rfl ?_
    obtain ⟨g2, hq⟩ := hq
    refine x_getN (v := .int (fI h x1 2054)) gfX5_671 dX5_threaten_6 g2 rfl ?_
    refine x_if_le (tgt := 20) dX5_threaten_9 (by decide) (fun c3 => ?_) (fun c3 => ?_)
    · replace hq := hq.1 c3
      refine x_aload_n 1 dX5_threaten_20 rfl ?_
      refine x_getN (v := .int (fI h x1 2052)) gfX5_450 dX5_threaten_21 g2 rfl ?_
      refine x_aload_n 0 dX5_threaten_24 rfl ?_
      obtain ⟨g4, hq⟩ := hq
      refine x_get (v := rv (fR h x0 1295)) fdX5_416 dX5_threaten_25 g4 rfl ?_
      obtain ⟨g5, hq⟩ := hq
      refine x_getN (v := .int (fI h (fR h x0 1295) 4102)) gfX5_447 dX5_threaten_28 g5 rfl ?_
      refine x_icmp_ge (tgt := 39) dX5_threaten_31 (by decide) (fun c6 => ?_) (fun c6 => ?_)
      · replace hq := hq.1 c6
        refine xP.pick (lv' := []) [] rfl ?_
        exact uX5_threaten_39 hq
      · replace hq := hq.2 c6
        refine x_aload_n 1 dX5_threaten_34 rfl ?_
        refine x_iconst (v := 1) dX5_threaten_35 (by decide) ?_
        obtain ⟨h7, e8⟩ : ∃ y, y = sI h x1 2058 1 := ⟨_, rfl⟩
        replace hq := hq h7 e8
        refine x_putNI gfX5_668 xty_Z1 dX5_threaten_36 g2 (Or.inl (by rw [g2]; rfl)) (xnB (Or.inr rfl)) rfl e8 ?_
        refine xP.pick (lv' := []) [] rfl ?_
        exact uX5_threaten_39 hq
    · replace hq := hq.2 c3
      refine x_aload_n 0 dX5_threaten_12 rfl ?_
      refine x_bipush (v := 11) dX5_threaten_13 (by decide) ?_
      refine x_iload_n 2 dX5_threaten_15 rfl ?_
      obtain ⟨g9, hq⟩ := hq
      obtain ⟨g10, g11, hq⟩ := hq
      refine x_callV (Yc := YX5_fault) (as := [.int 11, .int x2]) (st := []) q2087 mvX5_fault g9 rfl dX5_threaten_16 (xle (xal1 (rv_cat _) (xal1 rfl (xal1 rfl xal0))) (by decide)) (xfr g10) (xlo xsw0 (by decide) g11) (xKr hq (fun x13 h12 hq e14 => ?_) (fun _ _ q _ => q))
      replace hq := hq e14
      obtain ⟨r15, g16, hq⟩ := hq
      rw [g16]
      exact x_athrow dX5_threaten_19 hq
  · replace hq := hq.2 c1
    exact x_vret rfl dX5_threaten_4 hq
theorem rX5_threaten {G : xG} {fr lo : Nat} {x0 : Nat} {x1 : Nat} {x2 : Int32} {h : xH} {Q : Outcome → xH → Prop} (hq : bX5_threaten G fr lo x0 x1 x2 h Q) : xR G YX5_threaten fr lo [rv x0, rv x1, .int x2] h Q := by
  show xP _ _ _ _ _ (lv_args 0 _) _ _ _
  rw [show lv_args 0 [rv x0, rv x1, .int x2] = [(0, rv x0), (1, rv x1), (2, .int x2)] from (xla1 (rv_cat _) (xla1 (rv_cat _) (xla1 rfl xla0)))]
  exact uX5_threaten hq
set_option maxRecDepth 100000 in
theorem dX5_own_0 : decode cX5_own 0 = .ok (.aload_n 0, 1) := by decide +kernel
set_option maxRecDepth 100000 in
theorem dX5_own_1 : decode cX5_own 1 = .ok (.getfield 289, 3) := by decide +kernel
set_option maxRecDepth 100000 in
theorem dX5_own_4 : decode cX5_own 4 = .ok (.iconst 5, 1) := by decide +kernel
set_option maxRecDepth 100000 in
theorem dX5_own_5 : decode cX5_own 5 = .ok (.if_icmp .ne 10, 3) := by decide +kernel
set_option maxRecDepth 100000 in
theorem dX5_own_8 : decode cX5_own 8 = .ok (.aload_n 0, 1) := by decide +kernel
set_option maxRecDepth 100000 in
theorem dX5_own_9 : decode cX5_own 9 = .ok (.getfield 321, 3) := by decide +kernel
set_option maxRecDepth 100000 in
theorem dX5_own_12 : decode cX5_own 12 = .ok (.goto 4, 3) := by decide +kernel
set_option maxRecDepth 100000 in
theorem dX5_own_15 : decode cX5_own 15 = .ok (.aload_n 0, 1) := by decide +kernel
set_option maxRecDepth 100000 in
theorem dX5_own_16 : decode cX5_own 16 = .ok (.areturn, 1) := by decide +kernel
set_option maxRecDepth 100000 in
def bX5_own_16 (G : xG) (fr lo : Nat) (s0 : Nat) (h : xH) (Q : Outcome → xH → Prop) : Prop := Q (.returned (some (rv s0))) h
set_option maxRecDepth 100000 in
theorem uX5_own_16 {G : xG} {fr lo : Nat} {s0 : Nat} {h : xH} {Q : Outcome → xH → Prop} (hq : bX5_own_16 G fr lo s0 h Q) : xP G YX5_own fr lo 16 [] [rv s0] h Q := by
  unfold bX5_own_16 at hq
  exact x_aret rfl xty_O dX5_own_16 hq
set_option maxRecDepth 100000 in
def bX5_own (G : xG) (fr lo : Nat) (x0 : Nat) (h : xH) (Q : Outcome → xH → Prop) : Prop := tg h x0 = 7 ∧ ((¬ (fI h x0 1536) = 5 → bX5_own_16 G fr lo x0 h Q) ∧ ((fI h x0 1536) = 5 → bX5_own_16 G fr lo (fR h x0 1537) h Q))
set_option maxRecDepth 100000 in
theorem uX5_own {G : xG} {fr lo : Nat} {x0 : Nat} {h : xH} {Q : Outcome → xH → Prop} (hq : bX5_own G fr lo x0 h Q) : xP G YX5_own fr lo 0 [(0, rv x0)] [] h Q := by
  unfold bX5_own at hq
  refine x_aload_n 0 dX5_own_0 rfl ?_
  obtain ⟨g1, hq⟩ := hq
  refine x_getN (v := .int (fI h x0 1536)) gfX5_289 dX5_own_1 g1 rfl ?_
  refine x_iconst (v := 5) dX5_own_4 (by decide) ?_
  refine x_icmp_ne (tgt := 15) dX5_own_5 (by decide) (fun c2 => ?_) (fun c2 => ?_)
  · replace hq := hq.1 c2
    refine x_aload_n 0 dX5_own_15 rfl ?_
    refine xP.pick (lv' := []) [] rfl ?_
    exact uX5_own_16 hq
  · replace hq := hq.2 c2
    refine x_aload_n 0 dX5_own_8 rfl ?_
    refine x_getN (v := rv (fR h x0 1537)) gfX5_321 dX5_own_9 g1 rfl ?_
    refine x_goto (tgt := 16) dX5_own_12 (by decide) ?_
    refine xP.pick (lv' := []) [] rfl ?_
    exact uX5_own_16 hq
theorem rX5_own {G : xG} {fr lo : Nat} {x0 : Nat} {h : xH} {Q : Outcome → xH → Prop} (hq : bX5_own G fr lo x0 h Q) : xR G YX5_own fr lo [rv x0] h Q := by
  show xP _ _ _ _ _ (lv_args 0 _) _ _ _
  rw [show lv_args 0 [rv x0] = [(0, rv x0)] from (xla1 (rv_cat _) xla0)]
  exact uX5_own hq
set_option maxRecDepth 100000 in
theorem dX5_standard_0 : decode cX5_standard 0 = .ok (.iload_n 1, 1) := by decide +kernel
set_option maxRecDepth 100000 in
theorem dX5_standard_1 : decode cX5_standard 1 = .ok (.ifCond .eq 10, 3) := by decide +kernel
set_option maxRecDepth 100000 in
theorem dX5_standard_4 : decode cX5_standard 4 = .ok (.aload_n 0, 1) := by decide +kernel
set_option maxRecDepth 100000 in
theorem dX5_standard_5 : decode cX5_standard 5 = .ok (.getfield 419, 3) := by decide +kernel
set_option maxRecDepth 100000 in
theorem dX5_standard_8 : decode cX5_standard 8 = .ok (.goto 7, 3) := by decide +kernel
set_option maxRecDepth 100000 in
theorem dX5_standard_11 : decode cX5_standard 11 = .ok (.aload_n 0, 1) := by decide +kernel
set_option maxRecDepth 100000 in
theorem dX5_standard_12 : decode cX5_standard 12 = .ok (.getfield 423, 3) := by decide +kernel
set_option maxRecDepth 100000 in
theorem dX5_standard_15 : decode cX5_standard 15 = .ok (.astore_n 3, 1) := by decide +kernel
set_option maxRecDepth 100000 in
theorem dX5_standard_16 : decode cX5_standard 16 = .ok (.aload_n 3, 1) := by decide +kernel
set_option maxRecDepth 100000 in
theorem dX5_standard_17 : decode cX5_standard 17 = .ok (.ifnonnull 10, 3) := by decide +kernel
set_option maxRecDepth 100000 in
theorem dX5_standard_20 : decode cX5_standard 20 = .ok (.aload_n 0, 1) := by decide +kernel
set_option maxRecDepth 100000 in
theorem dX5_standard_21 : decode cX5_standard 21 = .ok (.iconst 4, 1) := by decide +kernel
set_option maxRecDepth 100000 in
theorem dX5_standard_22 : decode cX5_standard 22 = .ok (.iload_n 2, 1) := by decide +kernel
set_option maxRecDepth 100000 in
theorem dX5_standard_23 : decode cX5_standard 23 = .ok (.invokevirtual 163, 3) := by decide +kernel
set_option maxRecDepth 100000 in
theorem dX5_standard_26 : decode cX5_standard 26 = .ok (.athrow, 1) := by decide +kernel
set_option maxRecDepth 100000 in
theorem dX5_standard_27 : decode cX5_standard 27 = .ok (.aload_n 3, 1) := by decide +kernel
set_option maxRecDepth 100000 in
theorem dX5_standard_28 : decode cX5_standard 28 = .ok (.areturn, 1) := by decide +kernel
set_option maxRecDepth 100000 in
def bX5_standard_15 (G : xG) (fr lo : Nat) (x0 : Nat) (x2 : Int32) (s0 : Nat) (h : xH) (Q : Outcome → xH → Prop) : Prop := ((¬ s0 = 0 → Q (.returned (some (rv s0))) h) ∧ (s0 = 0 → tg h x0 = 6 ∧ 1 ≤ fr ∧ 14 ≤ lo ∧ xRr G YX5_fault (fr - 1) (lo - 14) [rv x0, .int 4, .int x2] h (fun x6 h5 => xext h h5 → (∃ r8, x6 = r8 + 1 ∧ Q (.threw r8) h5)) (fun r h2 => Q (.threw r) h2)))
set_option maxRecDepth 100000 in
theorem uX5_standard_15 {G : xG} {fr lo : Nat} {x0 : Nat} {x2 : Int32} {s0 : Nat} {h : xH} {Q : Outcome → xH → Prop} (hq : bX5_standard_15 G fr lo x0 x2 s0 h Q) : xP G YX5_standard fr lo 15 [(0, rv x0), (2, .int x2)] [rv s0] h Q := by
  unfold bX5_standard_15 at hq
  refine x_astore_n (lv' := [(3, rv s0), (0, rv x0), (2, .int x2)]) dX5_standard_15 (by decide) rfl ?_
  refine x_aload_n 0 dX5_standard_16 rfl ?_
  refine x_ifnonnull (tgt := 27) dX5_standard_17 (by decide) (fun c1 => ?_) (fun c1 => ?_)
  · replace hq := hq.1 c1
    refine x_aload_n 0 dX5_standard_27 rfl ?_
    exact x_aret rfl xty_O dX5_standard_28 hq
  · replace hq := hq.2 c1
    refine x_aload_n 1 dX5_standard_20 rfl ?_
    refine x_iconst (v := 4) dX5_standard_21 (by decide) ?_
    refine x_iload_n 2 dX5_standard_22 rfl ?_
    obtain ⟨g2, hq⟩ := hq
    obtain ⟨g3, g4, hq⟩ := hq
    refine x_callV (Yc := YX5_fault) (as := [.int 4, .int x2]) (st := []) q2087 mvX5_fault g2 rfl dX5_standard_23 (xle (xal1 (rv_cat _) (xal1 rfl (xal1 rfl xal0))) (by decide)) (xfr g3) (xlo xsw0 (by decide) g4) (xKr hq (fun x6 h5 hq e7 => ?_) (fun _ _ q _ => q))
    replace hq := hq e7
    obtain ⟨r8, g9, hq⟩ := hq
    rw [g9]
    exact x_athrow dX5_standard_26 hq
set_option maxRecDepth 100000 in
def bX5_standard (G : xG) (fr lo : Nat) (x0 : Nat) (x1 : Int32) (x2 : Int32) (h : xH) (Q : Outcome → xH → Prop) : Prop := ((x1 = 0 → tg h x0 = 6 ∧ bX5_standard_15 G fr lo x0 x2 (fR h x0 1306) h Q) ∧ (¬ x1 = 0 → tg h x0 = 6 ∧ bX5_standard_15 G fr lo x0 x2 (fR h x0 1305) h Q))
set_option maxRecDepth 100000 in
theorem uX5_standard {G : xG} {fr lo : Nat} {x0 : Nat} {x1 : Int32} {x2 : Int32} {h : xH} {Q : Outcome → xH → Prop} (hq : bX5_standard G fr lo x0 x1 x2 h Q) : xP G YX5_standard fr lo 0 [(0, rv x0), (1, .int x1), (2, .int x2)] [] h Q := by
  unfold bX5_standard at hq
  refine x_iload_n 1 dX5_standard_0 rfl ?_
  refine x_if_eq (tgt := 11) dX5_standard_1 (by decide) (fun c1 => ?_) (fun c1 => ?_)
  · replace hq := hq.1 c1
    refine x_aload_n 0 dX5_standard_11 rfl ?_
    obtain ⟨g2, hq⟩ := hq
    refine x_get (v := rv (fR h x0 1306)) fdX5_423 dX5_standard_12 g2 rfl ?_
    refine xP.pick (lv' := [(0, rv x0), (2, .int x2)]) [0, 2] rfl ?_
    exact uX5_standard_15 hq
  · replace hq := hq.2 c1
    refine x_aload_n 0 dX5_standard_4 rfl ?_
    obtain ⟨g3, hq⟩ := hq
    refine x_get (v := rv (fR h x0 1305)) fdX5_419 dX5_standard_5 g3 rfl ?_
    refine x_goto (tgt := 15) dX5_standard_8 (by decide) ?_
    refine xP.pick (lv' := [(0, rv x0), (2, .int x2)]) [0, 2] rfl ?_
    exact uX5_standard_15 hq
theorem rX5_standard {G : xG} {fr lo : Nat} {x0 : Nat} {x1 : Int32} {x2 : Int32} {h : xH} {Q : Outcome → xH → Prop} (hq : bX5_standard G fr lo x0 x1 x2 h Q) : xR G YX5_standard fr lo [rv x0, .int x1, .int x2] h Q := by
  show xP _ _ _ _ _ (lv_args 0 _) _ _ _
  rw [show lv_args 0 [rv x0, .int x1, .int x2] = [(0, rv x0), (1, .int x1), (2, .int x2)] from (xla1 (rv_cat _) (xla1 rfl (xla1 rfl xla0)))]
  exact uX5_standard hq
set_option maxRecDepth 100000 in
theorem dX5_file_0 : decode cX5_file 0 = .ok (.aload_n 1, 1) := by decide +kernel
set_option maxRecDepth 100000 in
theorem dX5_file_1 : decode cX5_file 1 = .ok (.getfield 264, 3) := by decide +kernel
set_option maxRecDepth 100000 in
theorem dX5_file_4 : decode cX5_file 4 = .ok (.bipush 58, 2) := by decide +kernel
set_option maxRecDepth 100000 in
theorem dX5_file_6 : decode cX5_file 6 = .ok (.if_icmp .ne 10, 3) := by decide +kernel
set_option maxRecDepth 100000 in
theorem dX5_file_9 : decode cX5_file 9 = .ok (.aload_n 1, 1) := by decide +kernel
set_option maxRecDepth 100000 in
theorem dX5_file_10 : decode cX5_file 10 = .ok (.getfield 293, 3) := by decide +kernel
set_option maxRecDepth 100000 in
theorem dX5_file_13 : decode cX5_file 13 = .ok (.ifCond .le 5, 3) := by decide +kernel
set_option maxRecDepth 100000 in
theorem dX5_file_16 : decode cX5_file 16 = .ok (.aconst_null, 1) := by decide +kernel
set_option maxRecDepth 100000 in
theorem dX5_file_17 : decode cX5_file 17 = .ok (.areturn, 1) := by decide +kernel
set_option maxRecDepth 100000 in
theorem dX5_file_18 : decode cX5_file 18 = .ok (.aload_n 0, 1) := by decide +kernel
set_option maxRecDepth 100000 in
theorem dX5_file_19 : decode cX5_file 19 = .ok (.getfield 73, 3) := by decide +kernel
set_option maxRecDepth 100000 in
theorem dX5_file_22 : decode cX5_file 22 = .ok (.astore_n 2, 1) := by decide +kernel
set_option maxRecDepth 100000 in
theorem dX5_file_23 : decode cX5_file 23 = .ok (.aload_n 2, 1) := by decide +kernel
set_option maxRecDepth 100000 in
theorem dX5_file_24 : decode cX5_file 24 = .ok (.ifnull 84, 3) := by decide +kernel
set_option maxRecDepth 100000 in
theorem dX5_file_27 : decode cX5_file 27 = .ok (.aload_n 2, 1) := by decide +kernel
set_option maxRecDepth 100000 in
theorem dX5_file_28 : decode cX5_file 28 = .ok (.getfield 170, 3) := by decide +kernel
set_option maxRecDepth 100000 in
theorem dX5_file_31 : decode cX5_file 31 = .ok (.ifnull 19, 3) := by decide +kernel
set_option maxRecDepth 100000 in
theorem dX5_file_34 : decode cX5_file 34 = .ok (.aload_n 2, 1) := by decide +kernel
set_option maxRecDepth 100000 in
theorem dX5_file_35 : decode cX5_file 35 = .ok (.getfield 170, 3) := by decide +kernel
set_option maxRecDepth 100000 in
theorem dX5_file_38 : decode cX5_file 38 = .ok (.aload_n 1, 1) := by decide +kernel
set_option maxRecDepth 100000 in
theorem dX5_file_39 : decode cX5_file 39 = .ok (.invokevirtual 173, 3) := by decide +kernel
set_option maxRecDepth 100000 in
theorem dX5_file_42 : decode cX5_file 42 = .ok (.invokevirtual 177, 3) := by decide +kernel
set_option maxRecDepth 100000 in
theorem dX5_file_45 : decode cX5_file 45 = .ok (.ifnull 5, 3) := by decide +kernel
set_option maxRecDepth 100000 in
theorem dX5_file_48 : decode cX5_file 48 = .ok (.aconst_null, 1) := by decide +kernel
set_option maxRecDepth 100000 in
theorem dX5_file_49 : decode cX5_file 49 = .ok (.areturn, 1) := by decide +kernel
set_option maxRecDepth 100000 in
theorem dX5_file_50 : decode cX5_file 50 = .ok (.aload_n 2, 1) := by decide +kernel
set_option maxRecDepth 100000 in
theorem dX5_file_51 : decode cX5_file 51 = .ok (.getfield 170, 3) := by decide +kernel
set_option maxRecDepth 100000 in
theorem dX5_file_54 : decode cX5_file 54 = .ok (.ifnonnull 14, 3) := by decide +kernel
set_option maxRecDepth 100000 in
theorem dX5_file_57 : decode cX5_file 57 = .ok (.aload_n 2, 1) := by decide +kernel
set_option maxRecDepth 100000 in
theorem dX5_file_58 : decode cX5_file 58 = .ok (.aload_n 1, 1) := by decide +kernel
set_option maxRecDepth 100000 in
theorem dX5_file_59 : decode cX5_file 59 = .ok (.invokevirtual 173, 3) := by decide +kernel
set_option maxRecDepth 100000 in
theorem dX5_file_62 : decode cX5_file 62 = .ok (.invokevirtual 159, 3) := by decide +kernel
set_option maxRecDepth 100000 in
theorem dX5_file_65 : decode cX5_file 65 = .ok (.goto 4, 3) := by decide +kernel
set_option maxRecDepth 100000 in
theorem dX5_file_68 : decode cX5_file 68 = .ok (.aconst_null, 1) := by decide +kernel
set_option maxRecDepth 100000 in
theorem dX5_file_69 : decode cX5_file 69 = .ok (.astore_n 3, 1) := by decide +kernel
set_option maxRecDepth 100000 in
theorem dX5_file_70 : decode cX5_file 70 = .ok (.aload_n 3, 1) := by decide +kernel
set_option maxRecDepth 100000 in
theorem dX5_file_71 : decode cX5_file 71 = .ok (.ifnull 29, 3) := by decide +kernel
set_option maxRecDepth 100000 in
theorem dX5_file_74 : decode cX5_file 74 = .ok (.aload_n 3, 1) := by decide +kernel
set_option maxRecDepth 100000 in
theorem dX5_file_75 : decode cX5_file 75 = .ok (.getfield 199, 3) := by decide +kernel
set_option maxRecDepth 100000 in
theorem dX5_file_78 : decode cX5_file 78 = .ok (.iconst 2, 1) := by decide +kernel
set_option maxRecDepth 100000 in
theorem dX5_file_79 : decode cX5_file 79 = .ok (.if_icmp .ne 19, 3) := by decide +kernel
set_option maxRecDepth 100000 in
theorem dX5_file_82 : decode cX5_file 82 = .ok (.aload_n 3, 1) := by decide +kernel
set_option maxRecDepth 100000 in
theorem dX5_file_83 : decode cX5_file 83 = .ok (.getfield 249, 3) := by decide +kernel
set_option maxRecDepth 100000 in
theorem dX5_file_86 : decode cX5_file 86 = .ok (.getfield 289, 3) := by decide +kernel
set_option maxRecDepth 100000 in
theorem dX5_file_89 : decode cX5_file 89 = .ok (.bipush 10, 2) := by decide +kernel
set_option maxRecDepth 100000 in
theorem dX5_file_91 : decode cX5_file 91 = .ok (.if_icmp .ne 7, 3) := by decide +kernel
set_option maxRecDepth 100000 in
theorem dX5_file_94 : decode cX5_file 94 = .ok (.aload_n 3, 1) := by decide +kernel
set_option maxRecDepth 100000 in
theorem dX5_file_95 : decode cX5_file 95 = .ok (.goto 4, 3) := by decide +kernel
set_option maxRecDepth 100000 in
theorem dX5_file_98 : decode cX5_file 98 = .ok (.aconst_null, 1) := by decide +kernel
set_option maxRecDepth 100000 in
theorem dX5_file_99 : decode cX5_file 99 = .ok (.areturn, 1) := by decide +kernel
set_option maxRecDepth 100000 in
theorem dX5_file_100 : decode cX5_file 100 = .ok (.aload_n 2, 1) := by decide +kernel
set_option maxRecDepth 100000 in
theorem dX5_file_101 : decode cX5_file 101 = .ok (.getfield 189, 3) := by decide +kernel
set_option maxRecDepth 100000 in
theorem dX5_file_104 : decode cX5_file 104 = .ok (.astore_n 2, 1) := by decide +kernel
set_option maxRecDepth 100000 in
theorem dX5_file_105 : decode cX5_file 105 = .ok (.goto (-82), 3) := by decide +kernel
set_option maxRecDepth 100000 in
theorem dX5_file_108 : decode cX5_file 108 = .ok (.aconst_null, 1) := by decide +kernel
set_option maxRecDepth 100000 in
theorem dX5_file_109 : decode cX5_file 109 = .ok (.areturn, 1) := by decide +kernel
def lX5_file_23 (G : xG) (fr lo : Nat) (x1 : Nat) (x2 : Nat) (h : xH) (Q : Outcome → xH → Prop) : Prop := xP G YX5_file fr lo 23 [(1, rv x1), (2, rv x2)] [] h Q
set_option maxRecDepth 100000 in
def bX5_file_99 (G : xG) (fr lo : Nat) (s0 : Nat) (h : xH) (Q : Outcome → xH → Prop) : Prop := Q (.returned (some (rv s0))) h
set_option maxRecDepth 100000 in
theorem uX5_file_99 {G : xG} {fr lo : Nat} {s0 : Nat} {h : xH} {Q : Outcome → xH → Prop} (hq : bX5_file_99 G fr lo s0 h Q) : xP G YX5_file fr lo 99 [] [rv s0] h Q := by
  unfold bX5_file_99 at hq
  exact x_aret rfl xty_O dX5_file_99 hq
set_option maxRecDepth 100000 in
def bX5_file_98 (G : xG) (fr lo : Nat) (h : xH) (Q : Outcome → xH → Prop) : Prop := bX5_file_99 G fr lo 0 h Q
set_option maxRecDepth 100000 in
theorem uX5_file_98 {G : xG} {fr lo : Nat} {h : xH} {Q : Outcome → xH → Prop} (hq : bX5_file_98 G fr lo h Q) : xP G YX5_file fr lo 98 [] [] h Q := by
  unfold bX5_file_98 at hq
  refine x_null dX5_file_98 ?_
  exact uX5_file_99 hq
set_option maxRecDepth 100000 in
def bX5_file_69 (G : xG) (fr lo : Nat) (x1 : Nat) (x2 : Nat) (s0 : Nat) (h : xH) (Q : Outcome → xH → Prop) : Prop := ((s0 = 0 → tg h x2 = 8 ∧ lX5_file_23 G fr lo x1 (fR h x2 1793) h Q) ∧ (¬ s0 = 0 → tg h s0 = 9 ∧ ((¬ (fI h s0 2048) = 2 → bX5_file_98 G fr lo h Q) ∧ ((fI h s0 2048) = 2 → tg h (fR h s0 2050) = 7 ∧ ((¬ (fI h (fR h s0 2050) 1536) = 10 → bX5_file_98 G fr lo h Q) ∧ ((fI h (fR h s0 2050) 1536) = 10 → bX5_file_99 G fr lo s0 h Q))))))
set_option maxRecDepth 100000 in
theorem uX5_file_69 {G : xG} {fr lo : Nat} {x1 : Nat} {x2 : Nat} {s0 : Nat} {h : xH} {Q : Outcome → xH → Prop} (hq : bX5_file_69 G fr lo x1 x2 s0 h Q) : xP G YX5_file fr lo 69 [(1, rv x1), (2, rv x2)] [rv s0] h Q := by
  unfold bX5_file_69 at hq
  refine x_astore_n (lv' := [(3, rv s0), (1, rv x1), (2, rv x2)]) dX5_file_69 (by decide) (by first | rfl | (simp [rv_cat, Value.category]; done) | (simp [rv_cat, Value.category]; decide)) ?_
  refine x_aload_n 0 dX5_file_70 rfl ?_
  refine x_ifnull (tgt := 100) dX5_file_71 (by decide) (fun c1 => ?_) (fun c1 => ?_)
  · replace hq := hq.1 c1
    refine x_aload_n 2 dX5_file_100 rfl ?_
    obtain ⟨g2, hq⟩ := hq
    refine x_getN (v := rv (fR h x2 1793)) gfX5_189 dX5_file_101 g2 rfl ?_
    refine x_astore_n (lv' := [(2, rv (fR h x2 1793)), (3, rv s0), (1, rv x1)]) dX5_file_104 (by decide) (by first | rfl | (simp [rv_cat, Value.category]; done) | (simp [rv_cat, Value.category]; decide)) ?_
    refine x_goto (tgt := 23) dX5_file_105 (by decide) ?_
    refine xP.pick (lv' := [(1, rv x1), (2, rv (fR h x2 1793))]) [2, 0] rfl ?_
    exact hq
  · replace hq := hq.2 c1
    refine x_aload_n 0 dX5_file_74 rfl ?_
    obtain ⟨g3, hq⟩ := hq
    refine x_getN (v := .int (fI h s0 2048)) gfX5_199 dX5_file_75 g3 rfl ?_
    refine x_iconst (v := 2) dX5_file_78 (by decide) ?_
    refine x_icmp_ne (tgt := 98) dX5_file_79 (by decide) (fun c4 => ?_) (fun c4 => ?_)
    · replace hq := hq.1 c4
      refine xP.pick (lv' := []) [] rfl ?_
      exact uX5_file_98 hq
    · replace hq := hq.2 c4
      refine x_aload_n 0 dX5_file_82 rfl ?_
      refine x_getN (v := rv (fR h s0 2050)) gfX5_249 dX5_file_83 g3 rfl ?_
      obtain ⟨g5, hq⟩ := hq
      refine x_getN (v := .int (fI h (fR h s0 2050) 1536)) gfX5_289 dX5_file_86 g5 rfl ?_
      refine x_bipush (v := 10) dX5_file_89 (by decide) ?_
      refine x_icmp_ne (tgt := 98) dX5_file_91 (by decide) (fun c6 => ?_) (fun c6 => ?_)
      · replace hq := hq.1 c6
        refine xP.pick (lv' := []) [] rfl ?_
        exact uX5_file_98 hq
      · replace hq := hq.2 c6
        refine x_aload_n 0 dX5_file_94 rfl ?_
        refine x_goto (tgt := 99) dX5_file_95 (by decide) ?_
        refine xP.pick (lv' := []) [] rfl ?_
        exact uX5_file_99 hq
set_option maxRecDepth 100000 in
def bX5_file_50 (G : xG) (fr lo : Nat) (x1 : Nat) (x2 : Nat) (h : xH) (Q : Outcome → xH → Prop) : Prop := tg h x2 = 8 ∧ ((¬ (fR h x2 1794) = 0 → bX5_file_69 G fr lo x1 x2 0 h Q) ∧ ((fR h x2 1794) = 0 → tg h x1 = 16 ∧ 1 ≤ fr ∧ 13 ≤ lo ∧ xRr G YX15_text (fr - 1) (lo - 13) [rv x1] h (fun x7 h6 => xext h h6 → 1 ≤ fr ∧ 14 ≤ lo ∧ xRr G YX7_own (fr - 1) (lo - 14) [rv x2, rv x7] h6 (fun x13 h12 => xext h6 h12 → bX5_file_69 G fr lo x1 x2 x13 h12 Q) (fun r h2 => Q (.threw r) h2)) (fun r h2 => Q (.threw r) h2)))
set_option maxRecDepth 100000 in
theorem uX5_file_50 {G : xG} {fr lo : Nat} {x1 : Nat} {x2 : Nat} {h : xH} {Q : Outcome → xH → Prop} (hq : bX5_file_50 G fr lo x1 x2 h Q) : xP G YX5_file fr lo 50 [(1, rv x1), (2, rv x2)] [] h Q := by
  unfold bX5_file_50 at hq
  refine x_aload_n 1 dX5_file_50 rfl ?_
  obtain ⟨g1, hq⟩ := hq
  refine x_getN (v := rv (fR h x2 1794)) gfX5_170 dX5_file_51 g1 rfl ?_
  refine x_ifnonnull (tgt := 68) dX5_file_54 (by decide) (fun c2 => ?_) (fun c2 => ?_)
  · replace hq := hq.1 c2
    refine x_null dX5_file_68 ?_
    exact uX5_file_69 hq
  · replace hq := hq.2 c2
    refine x_aload_n 1 dX5_file_57 rfl ?_
    refine x_aload_n 0 dX5_file_58 rfl ?_
    obtain ⟨g3, hq⟩ := hq
    obtain ⟨g4, g5, hq⟩ := hq
    refine x_callV (Yc := YX15_text) (as := []) (st := [rv x2]) q2009 mvX15_text g3 rfl dX5_file_59 (xle (xal1 (rv_cat _) xal0) (by decide)) (xfr g4) (xlo (xsw1 (rv_cat _) xsw0) (by decide) g5) (xKr hq (fun x7 h6 hq e8 => ?_) (fun _ _ q _ => q))
    replace hq := hq e8
    have t9 : tg h6 x2 = 8 := e8.tg g1 (by decide)
    obtain ⟨g10, g11, hq⟩ := hq
    refine x_callV (Yc := YX7_own) (as := [rv x7]) (st := []) q2107 mvX7_own t9 rfl dX5_file_62 (xle (xal1 (rv_cat _) (xal1 (rv_cat _) xal0)) (by decide)) (xfr g10) (xlo xsw0 (by decide) g11) (xKr hq (fun x13 h12 hq e14 => ?_) (fun _ _ q _ => q))
    replace hq := hq e14
    refine x_goto (tgt := 69) dX5_file_65 (by decide) ?_
    exact uX5_file_69 hq
set_option maxRecDepth 100000 in
def bX5_file_23 (G : xG) (fr lo : Nat) (x1 : Nat) (x2 : Nat) (h : xH) (Q : Outcome → xH → Prop) : Prop := ((x2 = 0 → Q (.returned (some (rv 0))) h) ∧ (¬ x2 = 0 → tg h x2 = 8 ∧ (((fR h x2 1794) = 0 → bX5_file_50 G fr lo x1 x2 h Q) ∧ (¬ (fR h x2 1794) = 0 → tg h x1 = 16 ∧ 1 ≤ fr ∧ 13 ≤ lo ∧ xRr G YX15_text (fr - 1) (lo - 13) [rv x1] h (fun x8 h7 => xext h h7 → tg h7 (fR h x2 1794) = 7 ∧ 1 ≤ fr ∧ 14 ≤ lo ∧ xRr G YX6_field (fr - 1) (lo - 14) [rv (fR h x2 1794), rv x8] h7 (fun x14 h13 => xext h7 h13 → ((x14 = 0 → bX5_file_50 G fr lo x1 x2 h13 Q) ∧ (¬ x14 = 0 → Q (.returned (some (rv 0))) h13))) (fun r h2 => Q (.threw r) h2)) (fun r h2 => Q (.threw r) h2)))))
set_option maxRecDepth 100000 in
theorem uX5_file_23 {G : xG} {fr lo : Nat} {x1 : Nat} {x2 : Nat} {h : xH} {Q : Outcome → xH → Prop} (hq : bX5_file_23 G fr lo x1 x2 h Q) : xP G YX5_file fr lo 23 [(1, rv x1), (2, rv x2)] [] h Q := by
  unfold bX5_file_23 at hq
  refine x_aload_n 1 dX5_file_23 rfl ?_
  refine x_ifnull (tgt := 108) dX5_file_24 (by decide) (fun c1 => ?_) (fun c1 => ?_)
  · replace hq := hq.1 c1
    refine x_null dX5_file_108 ?_
    exact x_aret rfl xty_O dX5_file_109 hq
  · replace hq := hq.2 c1
    refine x_aload_n 1 dX5_file_27 rfl ?_
    obtain ⟨g2, hq⟩ := hq
    refine x_getN (v := rv (fR h x2 1794)) gfX5_170 dX5_file_28 g2 rfl ?_
    refine x_ifnull (tgt := 50) dX5_file_31 (by decide) (fun c3 => ?_) (fun c3 => ?_)
    · replace hq := hq.1 c3
      exact uX5_file_50 hq
    · replace hq := hq.2 c3
      refine x_aload_n 1 dX5_file_34 rfl ?_
      refine x_getN (v := rv (fR h x2 1794)) gfX5_170 dX5_file_35 g2 rfl ?_
      refine x_aload_n 0 dX5_file_38 rfl ?_
      obtain ⟨g4, hq⟩ := hq
      obtain ⟨g5, g6, hq⟩ := hq
      refine x_callV (Yc := YX15_text) (as := []) (st := [rv (fR h x2 1794)]) q2009 mvX15_text g4 rfl dX5_file_39 (xle (xal1 (rv_cat _) xal0) (by decide)) (xfr g5) (xlo (xsw1 (rv_cat _) xsw0) (by decide) g6) (xKr hq (fun x8 h7 hq e9 => ?_) (fun _ _ q _ => q))
      replace hq := hq e9
      obtain ⟨g10, hq⟩ := hq
      obtain ⟨g11, g12, hq⟩ := hq
      refine x_callV (Yc := YX6_field) (as := [rv x8]) (st := []) q2250 mvX6_field g10 rfl dX5_file_42 (xle (xal1 (rv_cat _) (xal1 (rv_cat _) xal0)) (by decide)) (xfr g11) (xlo xsw0 (by decide) g12) (xKr hq (fun x14 h13 hq e15 => ?_) (fun _ _ q _ => q))
      replace hq := hq e15
      refine x_ifnull (tgt := 50) dX5_file_45 (by decide) (fun c16 => ?_) (fun c16 => ?_)
      · replace hq := hq.1 c16
        exact uX5_file_50 hq
      · replace hq := hq.2 c16
        refine x_null dX5_file_48 ?_
        exact x_aret rfl xty_O dX5_file_49 hq
set_option maxRecDepth 100000 in
def bX5_file_16 (G : xG) (fr lo : Nat) (h : xH) (Q : Outcome → xH → Prop) : Prop := Q (.returned (some (rv 0))) h
set_option maxRecDepth 100000 in
theorem uX5_file_16 {G : xG} {fr lo : Nat} {h : xH} {Q : Outcome → xH → Prop} (hq : bX5_file_16 G fr lo h Q) : xP G YX5_file fr lo 16 [] [] h Q := by
  unfold bX5_file_16 at hq
  refine x_null dX5_file_16 ?_
  exact x_aret rfl xty_O dX5_file_17 hq
set_option maxRecDepth 100000 in
def bX5_file (G : xG) (fr lo : Nat) (x0 : Nat) (x1 : Nat) (h : xH) (Q : Outcome → xH → Prop) : Prop := tg h x1 = 16 ∧ ((¬ (fI h x1 3840) = 58 → bX5_file_16 G fr lo h Q) ∧ ((fI h x1 3840) = 58 → (((fI h x1 3845) ≤ 0 → tg h x0 = 6 ∧ lX5_file_23 G fr lo x1 (fR h x0 1293) h Q) ∧ (¬ (fI h x1 3845) ≤ 0 → bX5_file_16 G fr lo h Q))))
set_option maxRecDepth 100000 in
theorem uX5_file {G : xG} {fr lo : Nat} {x0 : Nat} {x1 : Nat} {h : xH} {Q : Outcome → xH → Prop} (hq : bX5_file G fr lo x0 x1 h Q) : xP G YX5_file fr lo 0 [(0, rv x0), (1, rv x1)] [] h Q := by
  unfold bX5_file at hq
  refine x_aload_n 1 dX5_file_0 rfl ?_
  obtain ⟨g1, hq⟩ := hq
  refine x_getN (v := .int (fI h x1 3840)) gfX5_264 dX5_file_1 g1 rfl ?_
  refine x_bipush (v := 58) dX5_file_4 (by decide) ?_
  refine x_icmp_ne (tgt := 16) dX5_file_6 (by decide) (fun c2 => ?_) (fun c2 => ?_)
  · replace hq := hq.1 c2
    refine xP.pick (lv' := []) [] rfl ?_
    exact uX5_file_16 hq
  · replace hq := hq.2 c2
    refine x_aload_n 1 dX5_file_9 rfl ?_
    refine x_getN (v := .int (fI h x1 3845)) gfX5_293 dX5_file_10 g1 rfl ?_
    refine x_if_le (tgt := 18) dX5_file_13 (by decide) (fun c3 => ?_) (fun c3 => ?_)
    · replace hq := hq.1 c3
      refine x_aload_n 0 dX5_file_18 rfl ?_
      obtain ⟨g4, hq⟩ := hq
      refine x_get (v := rv (fR h x0 1293)) fdX5_73 dX5_file_19 g4 rfl ?_
      refine x_astore_n (lv' := [(2, rv (fR h x0 1293)), (0, rv x0), (1, rv x1)]) dX5_file_22 (by decide) (by first | rfl | (simp [rv_cat, Value.category]; done) | (simp [rv_cat, Value.category]; decide)) ?_
      refine xP.pick (lv' := [(1, rv x1), (2, rv (fR h x0 1293))]) [2, 0] rfl ?_
      exact hq
    · replace hq := hq.2 c3
      refine xP.pick (lv' := []) [] rfl ?_
      exact uX5_file_16 hq
theorem rX5_file {G : xG} {fr lo : Nat} {x0 : Nat} {x1 : Nat} {h : xH} {Q : Outcome → xH → Prop} (hq : bX5_file G fr lo x0 x1 h Q) : xR G YX5_file fr lo [rv x0, rv x1] h Q := by
  show xP _ _ _ _ _ (lv_args 0 _) _ _ _
  rw [show lv_args 0 [rv x0, rv x1] = [(0, rv x0), (1, rv x1)] from (xla1 (rv_cat _) (xla1 (rv_cat _) xla0))]
  exact uX5_file hq
set_option maxRecDepth 100000 in
theorem dX5_worked_0 : decode cX5_worked 0 = .ok (.aload_n 2, 1) := by decide +kernel
set_option maxRecDepth 100000 in
theorem dX5_worked_1 : decode cX5_worked 1 = .ok (.aload_n 0, 1) := by decide +kernel
set_option maxRecDepth 100000 in
theorem dX5_worked_2 : decode cX5_worked 2 = .ok (.getfield 20, 3) := by decide +kernel
set_option maxRecDepth 100000 in
theorem dX5_worked_5 : decode cX5_worked 5 = .ok (.if_acmp .ne 7, 3) := by decide +kernel
set_option maxRecDepth 100000 in
theorem dX5_worked_8 : decode cX5_worked 8 = .ok (.iconst 1, 1) := by decide +kernel
set_option maxRecDepth 100000 in
theorem dX5_worked_9 : decode cX5_worked 9 = .ok (.goto 4, 3) := by decide +kernel
set_option maxRecDepth 100000 in
theorem dX5_worked_12 : decode cX5_worked 12 = .ok (.iconst 0, 1) := by decide +kernel
set_option maxRecDepth 100000 in
theorem dX5_worked_13 : decode cX5_worked 13 = .ok (.istore 4, 2) := by decide +kernel
set_option maxRecDepth 100000 in
theorem dX5_worked_15 : decode cX5_worked 15 = .ok (.iload_n 1, 1) := by decide +kernel
set_option maxRecDepth 100000 in
theorem dX5_worked_16 : decode cX5_worked 16 = .ok (.tableswitch 233 10 18 #[52, 78, 104, 104, 104, 177, 182, 201, 201], 52) := by decide +kernel
set_option maxRecDepth 100000 in
theorem dX5_worked_68 : decode cX5_worked 68 = .ok (.aload_n 0, 1) := by decide +kernel
set_option maxRecDepth 100000 in
theorem dX5_worked_69 : decode cX5_worked 69 = .ok (.getfield 62, 3) := by decide +kernel
set_option maxRecDepth 100000 in
theorem dX5_worked_72 : decode cX5_worked 72 = .ok (.iload 4, 2) := by decide +kernel
set_option maxRecDepth 100000 in
theorem dX5_worked_74 : decode cX5_worked 74 = .ok (.ifCond .eq 8, 3) := by decide +kernel
set_option maxRecDepth 100000 in
theorem dX5_worked_77 : decode cX5_worked 77 = .ok (.bipush 70, 2) := by decide +kernel
set_option maxRecDepth 100000 in
theorem dX5_worked_79 : decode cX5_worked 79 = .ok (.goto 5, 3) := by decide +kernel
set_option maxRecDepth 100000 in
theorem dX5_worked_82 : decode cX5_worked 82 = .ok (.bipush 72, 2) := by decide +kernel
set_option maxRecDepth 100000 in
theorem dX5_worked_84 : decode cX5_worked 84 = .ok (.iconst 0, 1) := by decide +kernel
set_option maxRecDepth 100000 in
theorem dX5_worked_85 : decode cX5_worked 85 = .ok (.iconst 0, 1) := by decide +kernel
set_option maxRecDepth 100000 in
theorem dX5_worked_86 : decode cX5_worked 86 = .ok (.iconst 0, 1) := by decide +kernel
set_option maxRecDepth 100000 in
theorem dX5_worked_87 : decode cX5_worked 87 = .ok (.iload_n 3, 1) := by decide +kernel
set_option maxRecDepth 100000 in
theorem dX5_worked_88 : decode cX5_worked 88 = .ok (.invokevirtual 506, 3) := by decide +kernel
set_option maxRecDepth 100000 in
theorem dX5_worked_91 : decode cX5_worked 91 = .ok (.pop, 1) := by decide +kernel
set_option maxRecDepth 100000 in
theorem dX5_worked_92 : decode cX5_worked 92 = .ok (.aload_n 2, 1) := by decide +kernel
set_option maxRecDepth 100000 in
theorem dX5_worked_93 : decode cX5_worked 93 = .ok (.areturn, 1) := by decide +kernel
set_option maxRecDepth 100000 in
theorem dX5_worked_94 : decode cX5_worked 94 = .ok (.aload_n 0, 1) := by decide +kernel
set_option maxRecDepth 100000 in
theorem dX5_worked_95 : decode cX5_worked 95 = .ok (.getfield 62, 3) := by decide +kernel
set_option maxRecDepth 100000 in
theorem dX5_worked_98 : decode cX5_worked 98 = .ok (.iload 4, 2) := by decide +kernel
set_option maxRecDepth 100000 in
theorem dX5_worked_100 : decode cX5_worked 100 = .ok (.ifCond .eq 8, 3) := by decide +kernel
set_option maxRecDepth 100000 in
theorem dX5_worked_103 : decode cX5_worked 103 = .ok (.bipush 71, 2) := by decide +kernel
set_option maxRecDepth 100000 in
theorem dX5_worked_105 : decode cX5_worked 105 = .ok (.goto 5, 3) := by decide +kernel
set_option maxRecDepth 100000 in
theorem dX5_worked_108 : decode cX5_worked 108 = .ok (.bipush 73, 2) := by decide +kernel
set_option maxRecDepth 100000 in
theorem dX5_worked_110 : decode cX5_worked 110 = .ok (.iconst 0, 1) := by decide +kernel
set_option maxRecDepth 100000 in
theorem dX5_worked_111 : decode cX5_worked 111 = .ok (.iconst 0, 1) := by decide +kernel
set_option maxRecDepth 100000 in
theorem dX5_worked_112 : decode cX5_worked 112 = .ok (.iconst 0, 1) := by decide +kernel
set_option maxRecDepth 100000 in
theorem dX5_worked_113 : decode cX5_worked 113 = .ok (.iload_n 3, 1) := by decide +kernel
set_option maxRecDepth 100000 in
theorem dX5_worked_114 : decode cX5_worked 114 = .ok (.invokevirtual 506, 3) := by decide +kernel
set_option maxRecDepth 100000 in
theorem dX5_worked_117 : decode cX5_worked 117 = .ok (.pop, 1) := by decide +kernel
set_option maxRecDepth 100000 in
theorem dX5_worked_118 : decode cX5_worked 118 = .ok (.aload_n 2, 1) := by decide +kernel
set_option maxRecDepth 100000 in
theorem dX5_worked_119 : decode cX5_worked 119 = .ok (.areturn, 1) := by decide +kernel
set_option maxRecDepth 100000 in
theorem dX5_worked_120 : decode cX5_worked 120 = .ok (.iload 4, 2) := by decide +kernel
set_option maxRecDepth 100000 in
theorem dX5_worked_122 : decode cX5_worked 122 = .ok (.ifCond .eq 17, 3) := by decide +kernel
set_option maxRecDepth 100000 in
theorem dX5_worked_125 : decode cX5_worked 125 = .ok (.aload_n 0, 1) := by decide +kernel
set_option maxRecDepth 100000 in
theorem dX5_worked_126 : decode cX5_worked 126 = .ok (.getfield 62, 3) := by decide +kernel
set_option maxRecDepth 100000 in
theorem dX5_worked_129 : decode cX5_worked 129 = .ok (.bipush 31, 2) := by decide +kernel
set_option maxRecDepth 100000 in
theorem dX5_worked_131 : decode cX5_worked 131 = .ok (.iconst 0, 1) := by decide +kernel
set_option maxRecDepth 100000 in
theorem dX5_worked_132 : decode cX5_worked 132 = .ok (.iconst 0, 1) := by decide +kernel
set_option maxRecDepth 100000 in
theorem dX5_worked_133 : decode cX5_worked 133 = .ok (.iconst 0, 1) := by decide +kernel
set_option maxRecDepth 100000 in
theorem dX5_worked_134 : decode cX5_worked 134 = .ok (.iconst 0, 1) := by decide +kernel
set_option maxRecDepth 100000 in
theorem dX5_worked_135 : decode cX5_worked 135 = .ok (.invokevirtual 506, 3) := by decide +kernel
set_option maxRecDepth 100000 in
theorem dX5_worked_138 : decode cX5_worked 138 = .ok (.pop, 1) := by decide +kernel
set_option maxRecDepth 100000 in
theorem dX5_worked_139 : decode cX5_worked 139 = .ok (.aload_n 0, 1) := by decide +kernel
set_option maxRecDepth 100000 in
theorem dX5_worked_140 : decode cX5_worked 140 = .ok (.getfield 62, 3) := by decide +kernel
set_option maxRecDepth 100000 in
theorem dX5_worked_143 : decode cX5_worked 143 = .ok (.iload_n 1, 1) := by decide +kernel
set_option maxRecDepth 100000 in
theorem dX5_worked_144 : decode cX5_worked 144 = .ok (.bipush 12, 2) := by decide +kernel
set_option maxRecDepth 100000 in
theorem dX5_worked_146 : decode cX5_worked 146 = .ok (.if_icmp .ne 8, 3) := by decide +kernel
set_option maxRecDepth 100000 in
theorem dX5_worked_149 : decode cX5_worked 149 = .ok (.bipush 74, 2) := by decide +kernel
set_option maxRecDepth 100000 in
theorem dX5_worked_151 : decode cX5_worked 151 = .ok (.goto 16, 3) := by decide +kernel
set_option maxRecDepth 100000 in
theorem dX5_worked_154 : decode cX5_worked 154 = .ok (.iload_n 1, 1) := by decide +kernel
set_option maxRecDepth 100000 in
theorem dX5_worked_155 : decode cX5_worked 155 = .ok (.bipush 13, 2) := by decide +kernel
set_option maxRecDepth 100000 in
theorem dX5_worked_157 : decode cX5_worked 157 = .ok (.if_icmp .ne 8, 3) := by decide +kernel
set_option maxRecDepth 100000 in
theorem dX5_worked_160 : decode cX5_worked 160 = .ok (.bipush 75, 2) := by decide +kernel
set_option maxRecDepth 100000 in
theorem dX5_worked_162 : decode cX5_worked 162 = .ok (.goto 5, 3) := by decide +kernel
set_option maxRecDepth 100000 in
theorem dX5_worked_165 : decode cX5_worked 165 = .ok (.bipush 76, 2) := by decide +kernel
set_option maxRecDepth 100000 in
theorem dX5_worked_167 : decode cX5_worked 167 = .ok (.iconst 0, 1) := by decide +kernel
set_option maxRecDepth 100000 in
theorem dX5_worked_168 : decode cX5_worked 168 = .ok (.iconst 0, 1) := by decide +kernel
set_option maxRecDepth 100000 in
theorem dX5_worked_169 : decode cX5_worked 169 = .ok (.iconst 0, 1) := by decide +kernel
set_option maxRecDepth 100000 in
theorem dX5_worked_170 : decode cX5_worked 170 = .ok (.iload_n 3, 1) := by decide +kernel
set_option maxRecDepth 100000 in
theorem dX5_worked_171 : decode cX5_worked 171 = .ok (.invokevirtual 506, 3) := by decide +kernel
set_option maxRecDepth 100000 in
theorem dX5_worked_174 : decode cX5_worked 174 = .ok (.pop, 1) := by decide +kernel
set_option maxRecDepth 100000 in
theorem dX5_worked_175 : decode cX5_worked 175 = .ok (.iload_n 1, 1) := by decide +kernel
set_option maxRecDepth 100000 in
theorem dX5_worked_176 : decode cX5_worked 176 = .ok (.bipush 12, 2) := by decide +kernel
set_option maxRecDepth 100000 in
theorem dX5_worked_178 : decode cX5_worked 178 = .ok (.if_icmp .ne 10, 3) := by decide +kernel
set_option maxRecDepth 100000 in
theorem dX5_worked_181 : decode cX5_worked 181 = .ok (.aload_n 0, 1) := by decide +kernel
set_option maxRecDepth 100000 in
theorem dX5_worked_182 : decode cX5_worked 182 = .ok (.getfield 26, 3) := by decide +kernel
set_option maxRecDepth 100000 in
theorem dX5_worked_185 : decode cX5_worked 185 = .ok (.goto 7, 3) := by decide +kernel
set_option maxRecDepth 100000 in
theorem dX5_worked_188 : decode cX5_worked 188 = .ok (.aload_n 0, 1) := by decide +kernel
set_option maxRecDepth 100000 in
theorem dX5_worked_189 : decode cX5_worked 189 = .ok (.getfield 20, 3) := by decide +kernel
set_option maxRecDepth 100000 in
theorem dX5_worked_192 : decode cX5_worked 192 = .ok (.areturn, 1) := by decide +kernel
set_option maxRecDepth 100000 in
theorem dX5_worked_193 : decode cX5_worked 193 = .ok (.aload_n 0, 1) := by decide +kernel
set_option maxRecDepth 100000 in
theorem dX5_worked_194 : decode cX5_worked 194 = .ok (.getfield 20, 3) := by decide +kernel
set_option maxRecDepth 100000 in
theorem dX5_worked_197 : decode cX5_worked 197 = .ok (.areturn, 1) := by decide +kernel
set_option maxRecDepth 100000 in
theorem dX5_worked_198 : decode cX5_worked 198 = .ok (.aload_n 0, 1) := by decide +kernel
set_option maxRecDepth 100000 in
theorem dX5_worked_199 : decode cX5_worked 199 = .ok (.getfield 62, 3) := by decide +kernel
set_option maxRecDepth 100000 in
theorem dX5_worked_202 : decode cX5_worked 202 = .ok (.bipush 77, 2) := by decide +kernel
set_option maxRecDepth 100000 in
theorem dX5_worked_204 : decode cX5_worked 204 = .ok (.iconst 0, 1) := by decide +kernel
set_option maxRecDepth 100000 in
theorem dX5_worked_205 : decode cX5_worked 205 = .ok (.iconst 0, 1) := by decide +kernel
set_option maxRecDepth 100000 in
theorem dX5_worked_206 : decode cX5_worked 206 = .ok (.iconst 0, 1) := by decide +kernel
set_option maxRecDepth 100000 in
theorem dX5_worked_207 : decode cX5_worked 207 = .ok (.iload_n 3, 1) := by decide +kernel
set_option maxRecDepth 100000 in
theorem dX5_worked_208 : decode cX5_worked 208 = .ok (.invokevirtual 506, 3) := by decide +kernel
set_option maxRecDepth 100000 in
theorem dX5_worked_211 : decode cX5_worked 211 = .ok (.pop, 1) := by decide +kernel
set_option maxRecDepth 100000 in
theorem dX5_worked_212 : decode cX5_worked 212 = .ok (.aload_n 0, 1) := by decide +kernel
set_option maxRecDepth 100000 in
theorem dX5_worked_213 : decode cX5_worked 213 = .ok (.getfield 32, 3) := by decide +kernel
set_option maxRecDepth 100000 in
theorem dX5_worked_216 : decode cX5_worked 216 = .ok (.areturn, 1) := by decide +kernel
set_option maxRecDepth 100000 in
theorem dX5_worked_217 : decode cX5_worked 217 = .ok (.aload_n 0, 1) := by decide +kernel
set_option maxRecDepth 100000 in
theorem dX5_worked_218 : decode cX5_worked 218 = .ok (.getfield 62, 3) := by decide +kernel
set_option maxRecDepth 100000 in
theorem dX5_worked_221 : decode cX5_worked 221 = .ok (.bipush 78, 2) := by decide +kernel
set_option maxRecDepth 100000 in
theorem dX5_worked_223 : decode cX5_worked 223 = .ok (.aload_n 2, 1) := by decide +kernel
set_option maxRecDepth 100000 in
theorem dX5_worked_224 : decode cX5_worked 224 = .ok (.getfield 338, 3) := by decide +kernel
set_option maxRecDepth 100000 in
theorem dX5_worked_227 : decode cX5_worked 227 = .ok (.aload_n 2, 1) := by decide +kernel
set_option maxRecDepth 100000 in
theorem dX5_worked_228 : decode cX5_worked 228 = .ok (.getfield 335, 3) := by decide +kernel
set_option maxRecDepth 100000 in
theorem dX5_worked_231 : decode cX5_worked 231 = .ok (.iload_n 1, 1) := by decide +kernel
set_option maxRecDepth 100000 in
theorem dX5_worked_232 : decode cX5_worked 232 = .ok (.bipush 17, 2) := by decide +kernel
set_option maxRecDepth 100000 in
theorem dX5_worked_234 : decode cX5_worked 234 = .ok (.if_icmp .ne 7, 3) := by decide +kernel
set_option maxRecDepth 100000 in
theorem dX5_worked_237 : decode cX5_worked 237 = .ok (.iconst 1, 1) := by decide +kernel
set_option maxRecDepth 100000 in
theorem dX5_worked_238 : decode cX5_worked 238 = .ok (.goto 4, 3) := by decide +kernel
set_option maxRecDepth 100000 in
theorem dX5_worked_241 : decode cX5_worked 241 = .ok (.iconst (-1), 1) := by decide +kernel
set_option maxRecDepth 100000 in
theorem dX5_worked_242 : decode cX5_worked 242 = .ok (.iload_n 3, 1) := by decide +kernel
set_option maxRecDepth 100000 in
theorem dX5_worked_243 : decode cX5_worked 243 = .ok (.invokevirtual 506, 3) := by decide +kernel
set_option maxRecDepth 100000 in
theorem dX5_worked_246 : decode cX5_worked 246 = .ok (.pop, 1) := by decide +kernel
set_option maxRecDepth 100000 in
theorem dX5_worked_247 : decode cX5_worked 247 = .ok (.aload_n 2, 1) := by decide +kernel
set_option maxRecDepth 100000 in
theorem dX5_worked_248 : decode cX5_worked 248 = .ok (.areturn, 1) := by decide +kernel
set_option maxRecDepth 100000 in
theorem dX5_worked_249 : decode cX5_worked 249 = .ok (.aload_n 0, 1) := by decide +kernel
set_option maxRecDepth 100000 in
theorem dX5_worked_250 : decode cX5_worked 250 = .ok (.getfield 62, 3) := by decide +kernel
set_option maxRecDepth 100000 in
theorem dX5_worked_253 : decode cX5_worked 253 = .ok (.bipush 79, 2) := by decide +kernel
set_option maxRecDepth 100000 in
theorem dX5_worked_255 : decode cX5_worked 255 = .ok (.iconst 0, 1) := by decide +kernel
set_option maxRecDepth 100000 in
theorem dX5_worked_256 : decode cX5_worked 256 = .ok (.iconst 0, 1) := by decide +kernel
set_option maxRecDepth 100000 in
theorem dX5_worked_257 : decode cX5_worked 257 = .ok (.iconst 0, 1) := by decide +kernel
set_option maxRecDepth 100000 in
theorem dX5_worked_258 : decode cX5_worked 258 = .ok (.iconst 0, 1) := by decide +kernel
set_option maxRecDepth 100000 in
theorem dX5_worked_259 : decode cX5_worked 259 = .ok (.invokevirtual 506, 3) := by decide +kernel
set_option maxRecDepth 100000 in
theorem dX5_worked_262 : decode cX5_worked 262 = .ok (.pop, 1) := by decide +kernel
set_option maxRecDepth 100000 in
theorem dX5_worked_263 : decode cX5_worked 263 = .ok (.aload_n 0, 1) := by decide +kernel
set_option maxRecDepth 100000 in
theorem dX5_worked_264 : decode cX5_worked 264 = .ok (.getfield 29, 3) := by decide +kernel
set_option maxRecDepth 100000 in
theorem dX5_worked_267 : decode cX5_worked 267 = .ok (.areturn, 1) := by decide +kernel
set_option maxRecDepth 100000 in
def bX5_worked_242 (G : xG) (fr lo : Nat) (x2 : Nat) (x3 : Int32) (s0 : Int32) (s1 : Int32) (s2 : Int32) (s3 : Int32) (s4 : Nat) (h : xH) (Q : Outcome → xH → Prop) : Prop := tg h s4 = 3 ∧ 1 ≤ fr ∧ 17 ≤ lo ∧ xRi G YX2_put (fr - 1) (lo - 17) [rv s4, .int s3, .int s2, .int s1, .int s0, .int x3] h (fun x5 h4 => xext h h4 → Q (.returned (some (rv x2))) h4) (fun r h2 => Q (.threw r) h2)
set_option maxRecDepth 100000 in
theorem uX5_worked_242 {G : xG} {fr lo : Nat} {x2 : Nat} {x3 : Int32} {s0 : Int32} {s1 : Int32} {s2 : Int32} {s3 : Int32} {s4 : Nat} {h : xH} {Q : Outcome → xH → Prop} (hq : bX5_worked_242 G fr lo x2 x3 s0 s1 s2 s3 s4 h Q) : xP G YX5_worked fr lo 242 [(2, rv x2), (3, .int x3)] [.int s0, .int s1, .int s2, .int s3, rv s4] h Q := by
  unfold bX5_worked_242 at hq
  refine x_iload_n 1 dX5_worked_242 rfl ?_
  obtain ⟨g1, hq⟩ := hq
  obtain ⟨g2, g3, hq⟩ := hq
  refine x_callV (Yc := YX2_put) (as := [.int s3, .int s2, .int s1, .int s0, .int x3]) (st := []) q2494 mvX2_put g1 rfl dX5_worked_243 (xle (xal1 (rv_cat _) (xal1 rfl (xal1 rfl (xal1 rfl (xal1 rfl (xal1 rfl xal0)))))) (by decide)) (xfr g2) (xlo xsw0 (by decide) g3) (xKi hq (fun x5 h4 hq e6 => ?_) (fun _ _ q _ => q))
  replace hq := hq e6
  refine x_pop dX5_worked_246 rfl ?_
  refine x_aload_n 0 dX5_worked_247 rfl ?_
  exact x_aret rfl xty_O dX5_worked_248 hq
set_option maxRecDepth 100000 in
def bX5_worked_192 (G : xG) (fr lo : Nat) (s0 : Nat) (h : xH) (Q : Outcome → xH → Prop) : Prop := Q (.returned (some (rv s0))) h
set_option maxRecDepth 100000 in
theorem uX5_worked_192 {G : xG} {fr lo : Nat} {s0 : Nat} {h : xH} {Q : Outcome → xH → Prop} (hq : bX5_worked_192 G fr lo s0 h Q) : xP G YX5_worked fr lo 192 [] [rv s0] h Q := by
  unfold bX5_worked_192 at hq
  exact x_aret rfl xty_O dX5_worked_192 hq
set_option maxRecDepth 100000 in
def bX5_worked_167 (G : xG) (fr lo : Nat) (x0 : Nat) (x1 : Int32) (x3 : Int32) (s0 : Int32) (s1 : Nat) (h : xH) (Q : Outcome → xH → Prop) : Prop := tg h s1 = 3 ∧ 1 ≤ fr ∧ 17 ≤ lo ∧ xRi G YX2_put (fr - 1) (lo - 17) [rv s1, .int s0, .int 0, .int 0, .int 0, .int x3] h (fun x5 h4 => xext h h4 → ((¬ x1 = 12 → tg h4 x0 = 6 ∧ bX5_worked_192 G fr lo (fR h4 x0 1282) h4 Q) ∧ (x1 = 12 → tg h4 x0 = 6 ∧ bX5_worked_192 G fr lo (fR h4 x0 1283) h4 Q))) (fun r h2 => Q (.threw r) h2)
set_option maxRecDepth 100000 in
theorem uX5_worked_167 {G : xG} {fr lo : Nat} {x0 : Nat} {x1 : Int32} {x3 : Int32} {s0 : Int32} {s1 : Nat} {h : xH} {Q : Outcome → xH → Prop} (hq : bX5_worked_167 G fr lo x0 x1 x3 s0 s1 h Q) : xP G YX5_worked fr lo 167 [(0, rv x0), (1, .int x1), (3, .int x3)] [.int s0, rv s1] h Q := by
  unfold bX5_worked_167 at hq
  refine x_iconst (v := 0) dX5_worked_167 (by decide) ?_
  refine x_iconst (v := 0) dX5_worked_168 (by decide) ?_
  refine x_iconst (v := 0) dX5_worked_169 (by decide) ?_
  refine x_iload_n 2 dX5_worked_170 rfl ?_
  obtain ⟨g1, hq⟩ := hq
  obtain ⟨g2, g3, hq⟩ := hq
  refine x_callV (Yc := YX2_put) (as := [.int s0, .int 0, .int 0, .int 0, .int x3]) (st := []) q2494 mvX2_put g1 rfl dX5_worked_171 (xle (xal1 (rv_cat _) (xal1 rfl (xal1 rfl (xal1 rfl (xal1 rfl (xal1 rfl xal0)))))) (by decide)) (xfr g2) (xlo xsw0 (by decide) g3) (xKi hq (fun x5 h4 hq e6 => ?_) (fun _ _ q _ => q))
  replace hq := hq e6
  refine x_pop dX5_worked_174 rfl ?_
  refine x_iload_n 1 dX5_worked_175 rfl ?_
  refine x_bipush (v := 12) dX5_worked_176 (by decide) ?_
  refine x_icmp_ne (tgt := 188) dX5_worked_178 (by decide) (fun c7 => ?_) (fun c7 => ?_)
  · replace hq := hq.1 c7
    refine x_aload_n 0 dX5_worked_188 rfl ?_
    obtain ⟨g8, hq⟩ := hq
    refine x_get (v := rv (fR h4 x0 1282)) fdX5_20 dX5_worked_189 g8 rfl ?_
    refine xP.pick (lv' := []) [] rfl ?_
    exact uX5_worked_192 hq
  · replace hq := hq.2 c7
    refine x_aload_n 0 dX5_worked_181 rfl ?_
    obtain ⟨g9, hq⟩ := hq
    refine x_get (v := rv (fR h4 x0 1283)) fdX5_26 dX5_worked_182 g9 rfl ?_
    refine x_goto (tgt := 192) dX5_worked_185 (by decide) ?_
    refine xP.pick (lv' := []) [] rfl ?_
    exact uX5_worked_192 hq
set_option maxRecDepth 100000 in
def bX5_worked_139 (G : xG) (fr lo : Nat) (x0 : Nat) (x1 : Int32) (x3 : Int32) (h : xH) (Q : Outcome → xH → Prop) : Prop := tg h x0 = 6 ∧ ((¬ x1 = 12 → ((¬ x1 = 13 → bX5_worked_167 G fr lo x0 x1 x3 76 (fR h x0 1281) h Q) ∧ (x1 = 13 → bX5_worked_167 G fr lo x0 x1 x3 75 (fR h x0 1281) h Q))) ∧ (x1 = 12 → bX5_worked_167 G fr lo x0 x1 x3 74 (fR h x0 1281) h Q))
set_option maxRecDepth 100000 in
theorem uX5_worked_139 {G : xG} {fr lo : Nat} {x0 : Nat} {x1 : Int32} {x3 : Int32} {h : xH} {Q : Outcome → xH → Prop} (hq : bX5_worked_139 G fr lo x0 x1 x3 h Q) : xP G YX5_worked fr lo 139 [(0, rv x0), (1, .int x1), (3, .int x3)] [] h Q := by
  unfold bX5_worked_139 at hq
  refine x_aload_n 0 dX5_worked_139 rfl ?_
  obtain ⟨g1, hq⟩ := hq
  refine x_get (v := rv (fR h x0 1281)) fdX5_62 dX5_worked_140 g1 rfl ?_
  refine x_iload_n 1 dX5_worked_143 rfl ?_
  refine x_bipush (v := 12) dX5_worked_144 (by decide) ?_
  refine x_icmp_ne (tgt := 154) dX5_worked_146 (by decide) (fun c2 => ?_) (fun c2 => ?_)
  · replace hq := hq.1 c2
    refine x_iload_n 1 dX5_worked_154 rfl ?_
    refine x_bipush (v := 13) dX5_worked_155 (by decide) ?_
    refine x_icmp_ne (tgt := 165) dX5_worked_157 (by decide) (fun c3 => ?_) (fun c3 => ?_)
    · replace hq := hq.1 c3
      refine x_bipush (v := 76) dX5_worked_165 (by decide) ?_
      exact uX5_worked_167 hq
    · replace hq := hq.2 c3
      refine x_bipush (v := 75) dX5_worked_160 (by decide) ?_
      refine x_goto (tgt := 167) dX5_worked_162 (by decide) ?_
      exact uX5_worked_167 hq
  · replace hq := hq.2 c2
    refine x_bipush (v := 74) dX5_worked_149 (by decide) ?_
    refine x_goto (tgt := 167) dX5_worked_151 (by decide) ?_
    exact uX5_worked_167 hq
set_option maxRecDepth 100000 in
def bX5_worked_110 (G : xG) (fr lo : Nat) (x2 : Nat) (x3 : Int32) (s0 : Int32) (s1 : Nat) (h : xH) (Q : Outcome → xH → Prop) : Prop := tg h s1 = 3 ∧ 1 ≤ fr ∧ 17 ≤ lo ∧ xRi G YX2_put (fr - 1) (lo - 17) [rv s1, .int s0, .int 0, .int 0, .int 0, .int x3] h (fun x5 h4 => xext h h4 → Q (.returned (some (rv x2))) h4) (fun r h2 => Q (.threw r) h2)
set_option maxRecDepth 100000 in
theorem uX5_worked_110 {G : xG} {fr lo : Nat} {x2 : Nat} {x3 : Int32} {s0 : Int32} {s1 : Nat} {h : xH} {Q : Outcome → xH → Prop} (hq : bX5_worked_110 G fr lo x2 x3 s0 s1 h Q) : xP G YX5_worked fr lo 110 [(2, rv x2), (3, .int x3)] [.int s0, rv s1] h Q := by
  unfold bX5_worked_110 at hq
  refine x_iconst (v := 0) dX5_worked_110 (by decide) ?_
  refine x_iconst (v := 0) dX5_worked_111 (by decide) ?_
  refine x_iconst (v := 0) dX5_worked_112 (by decide) ?_
  refine x_iload_n 1 dX5_worked_113 rfl ?_
  obtain ⟨g1, hq⟩ := hq
  obtain ⟨g2, g3, hq⟩ := hq
  refine x_callV (Yc := YX2_put) (as := [.int s0, .int 0, .int 0, .int 0, .int x3]) (st := []) q2494 mvX2_put g1 rfl dX5_worked_114 (xle (xal1 (rv_cat _) (xal1 rfl (xal1 rfl (xal1 rfl (xal1 rfl (xal1 rfl xal0)))))) (by decide)) (xfr g2) (xlo xsw0 (by decide) g3) (xKi hq (fun x5 h4 hq e6 => ?_) (fun _ _ q _ => q))
  replace hq := hq e6
  refine x_pop dX5_worked_117 rfl ?_
  refine x_aload_n 0 dX5_worked_118 rfl ?_
  exact x_aret rfl xty_O dX5_worked_119 hq
set_option maxRecDepth 100000 in
def bX5_worked_84 (G : xG) (fr lo : Nat) (x2 : Nat) (x3 : Int32) (s0 : Int32) (s1 : Nat) (h : xH) (Q : Outcome → xH → Prop) : Prop := tg h s1 = 3 ∧ 1 ≤ fr ∧ 17 ≤ lo ∧ xRi G YX2_put (fr - 1) (lo - 17) [rv s1, .int s0, .int 0, .int 0, .int 0, .int x3] h (fun x5 h4 => xext h h4 → Q (.returned (some (rv x2))) h4) (fun r h2 => Q (.threw r) h2)
set_option maxRecDepth 100000 in
theorem uX5_worked_84 {G : xG} {fr lo : Nat} {x2 : Nat} {x3 : Int32} {s0 : Int32} {s1 : Nat} {h : xH} {Q : Outcome → xH → Prop} (hq : bX5_worked_84 G fr lo x2 x3 s0 s1 h Q) : xP G YX5_worked fr lo 84 [(2, rv x2), (3, .int x3)] [.int s0, rv s1] h Q := by
  unfold bX5_worked_84 at hq
  refine x_iconst (v := 0) dX5_worked_84 (by decide) ?_
  refine x_iconst (v := 0) dX5_worked_85 (by decide) ?_
  refine x_iconst (v := 0) dX5_worked_86 (by decide) ?_
  refine x_iload_n 1 dX5_worked_87 rfl ?_
  obtain ⟨g1, hq⟩ := hq
  obtain ⟨g2, g3, hq⟩ := hq
  refine x_callV (Yc := YX2_put) (as := [.int s0, .int 0, .int 0, .int 0, .int x3]) (st := []) q2494 mvX2_put g1 rfl dX5_worked_88 (xle (xal1 (rv_cat _) (xal1 rfl (xal1 rfl (xal1 rfl (xal1 rfl (xal1 rfl xal0)))))) (by decide)) (xfr g2) (xlo xsw0 (by decide) g3) (xKi hq (fun x5 h4 hq e6 => ?_) (fun _ _ q _ => q))
  replace hq := hq e6
  refine x_pop dX5_worked_91 rfl ?_
  refine x_aload_n 0 dX5_worked_92 rfl ?_
  exact x_aret rfl xty_O dX5_worked_93 hq
set_option maxRecDepth 100000 in
def bX5_worked_13 (G : xG) (fr lo : Nat) (x0 : Nat) (x1 : Int32) (x2 : Nat) (x3 : Int32) (s0 : Int32) (h : xH) (Q : Outcome → xH → Prop) : Prop := ((x1 = 10 → tg h x0 = 6 ∧ ((s0 = 0 → bX5_worked_84 G fr lo x2 x3 72 (fR h x0 1281) h Q) ∧ (¬ s0 = 0 → bX5_worked_84 G fr lo x2 x3 70 (fR h x0 1281) h Q))) ∧ (x1 = 11 → tg h x0 = 6 ∧ ((s0 = 0 → bX5_worked_110 G fr lo x2 x3 73 (fR h x0 1281) h Q) ∧ (¬ s0 = 0 → bX5_worked_110 G fr lo x2 x3 71 (fR h x0 1281) h Q))) ∧ (x1 = 12 → ((s0 = 0 → bX5_worked_139 G fr lo x0 x1 x3 h Q) ∧ (¬ s0 = 0 → tg h x0 = 6 ∧ tg h (fR h x0 1281) = 3 ∧ 1 ≤ fr ∧ 17 ≤ lo ∧ xRi G YX2_put (fr - 1) (lo - 17) [rv (fR h x0 1281), .int 31, .int 0, .int 0, .int 0, .int 0] h (fun x14 h13 => xext h h13 → bX5_worked_139 G fr lo x0 x1 x3 h13 Q) (fun r h2 => Q (.threw r) h2)))) ∧ (x1 = 13 → ((s0 = 0 → bX5_worked_139 G fr lo x0 x1 x3 h Q) ∧ (¬ s0 = 0 → tg h x0 = 6 ∧ tg h (fR h x0 1281) = 3 ∧ 1 ≤ fr ∧ 17 ≤ lo ∧ xRi G YX2_put (fr - 1) (lo - 17) [rv (fR h x0 1281), .int 31, .int 0, .int 0, .int 0, .int 0] h (fun x23 h22 => xext h h22 → bX5_worked_139 G fr lo x0 x1 x3 h22 Q) (fun r h2 => Q (.threw r) h2)))) ∧ (x1 = 14 → ((s0 = 0 → bX5_worked_139 G fr lo x0 x1 x3 h Q) ∧ (¬ s0 = 0 → tg h x0 = 6 ∧ tg h (fR h x0 1281) = 3 ∧ 1 ≤ fr ∧ 17 ≤ lo ∧ xRi G YX2_put (fr - 1) (lo - 17) [rv (fR h x0 1281), .int 31, .int 0, .int 0, .int 0, .int 0] h (fun x32 h31 => xext h h31 → bX5_worked_139 G fr lo x0 x1 x3 h31 Q) (fun r h2 => Q (.threw r) h2)))) ∧ (x1 = 15 → tg h x0 = 6 ∧ Q (.returned (some (rv (fR h x0 1282)))) h) ∧ (x1 = 16 → tg h x0 = 6 ∧ tg h (fR h x0 1281) = 3 ∧ 1 ≤ fr ∧ 17 ≤ lo ∧ xRi G YX2_put (fr - 1) (lo - 17) [rv (fR h x0 1281), .int 77, .int 0, .int 0, .int 0, .int x3] h (fun x42 h41 => xext h h41 → Q (.returned (some (rv (fR h41 x0 1285)))) h41) (fun r h2 => Q (.threw r) h2)) ∧ (x1 = 17 → tg h x0 = 6 ∧ tg h x2 = 7 ∧ ((¬ x1 = 17 → bX5_worked_242 G fr lo x2 x3 (-1) (fI h x2 1542) (fI h x2 1541) 78 (fR h x0 1281) h Q) ∧ (x1 = 17 → bX5_worked_242 G fr lo x2 x3 1 (fI h x2 1542) (fI h x2 1541) 78 (fR h x0 1281) h Q))) ∧ (x1 = 18 → tg h x0 = 6 ∧ tg h x2 = 7 ∧ ((¬ x1 = 17 → bX5_worked_242 G fr lo x2 x3 (-1) (fI h x2 1542) (fI h x2 1541) 78 (fR h x0 1281) h Q) ∧ (x1 = 17 → bX5_worked_242 G fr lo x2 x3 1 (fI h x2 1542) (fI h x2 1541) 78 (fR h x0 1281) h Q))) ∧ (¬ x1 = 10 → ¬ x1 = 11 → ¬ x1 = 12 → ¬ x1 = 13 → ¬ x1 = 14 → ¬ x1 = 15 → ¬ x1 = 16 → ¬ x1 = 17 → ¬ x1 = 18 → tg h x0 = 6 ∧ tg h (fR h x0 1281) = 3 ∧ 1 ≤ fr ∧ 17 ≤ lo ∧ xRi G YX2_put (fr - 1) (lo - 17) [rv (fR h x0 1281), .int 79, .int 0, .int 0, .int 0, .int 0] h (fun x58 h57 => xext h h57 → Q (.returned (some (rv (fR h57 x0 1284)))) h57) (fun r h2 => Q (.threw r) h2)))
set_option maxRecDepth 100000 in
theorem uX5_worked_13 {G : xG} {fr lo : Nat} {x0 : Nat} {x1 : Int32} {x2 : Nat} {x3 : Int32} {s0 : Int32} {h : xH} {Q : Outcome → xH → Prop} (hq : bX5_worked_13 G fr lo x0 x1 x2 x3 s0 h Q) : xP G YX5_worked fr lo 13 [(0, rv x0), (1, .int x1), (2, rv x2), (3, .int x3)] [.int s0] h Q := by
  unfold bX5_worked_13 at hq
  refine x_istore (lv' := [(4, .int s0), (0, rv x0), (1, .int x1), (2, rv x2), (3, .int x3)]) dX5_worked_13 (by decide) rfl ?_
  refine x_iload_n 2 dX5_worked_15 rfl ?_
  by_cases c1 : x1 = 10
  · replace hq := hq.1 c1
    refine x_tin (tgt := 68) (off := 52) 10 c1 dX5_worked_16 (by decide) (by decide) (by decide) (by decide) ?_
    refine x_aload_n 1 dX5_worked_68 rfl ?_
    obtain ⟨g2, hq⟩ := hq
    refine x_get (v := rv (fR h x0 1281)) fdX5_62 dX5_worked_69 g2 rfl ?_
    refine x_iload 0 dX5_worked_72 rfl ?_
    refine x_if_eq (tgt := 82) dX5_worked_74 (by decide) (fun c3 => ?_) (fun c3 => ?_)
    · replace hq := hq.1 c3
      refine x_bipush (v := 72) dX5_worked_82 (by decide) ?_
      refine xP.pick (lv' := [(2, rv x2), (3, .int x3)]) [3, 4] rfl ?_
      exact uX5_worked_84 hq
    · replace hq := hq.2 c3
      refine x_bipush (v := 70) dX5_worked_77 (by decide) ?_
      refine x_goto (tgt := 84) dX5_worked_79 (by decide) ?_
      refine xP.pick (lv' := [(2, rv x2), (3, .int x3)]) [3, 4] rfl ?_
      exact uX5_worked_84 hq
  replace hq := hq.2
  by_cases c4 : x1 = 11
  · replace hq := hq.1 c4
    refine x_tin (tgt := 94) (off := 78) 11 c4 dX5_worked_16 (by decide) (by decide) (by decide) (by decide) ?_
    refine x_aload_n 1 dX5_worked_94 rfl ?_
    obtain ⟨g5, hq⟩ := hq
    refine x_get (v := rv (fR h x0 1281)) fdX5_62 dX5_worked_95 g5 rfl ?_
    refine x_iload 0 dX5_worked_98 rfl ?_
    refine x_if_eq (tgt := 108) dX5_worked_100 (by decide) (fun c6 => ?_) (fun c6 => ?_)
    · replace hq := hq.1 c6
      refine x_bipush (v := 73) dX5_worked_108 (by decide) ?_
      refine xP.pick (lv' := [(2, rv x2), (3, .int x3)]) [3, 4] rfl ?_
      exact uX5_worked_110 hq
    · replace hq := hq.2 c6
      refine x_bipush (v := 71) dX5_worked_103 (by decide) ?_
      refine x_goto (tgt := 110) dX5_worked_105 (by decide) ?_
      refine xP.pick (lv' := [(2, rv x2), (3, .int x3)]) [3, 4] rfl ?_
      exact uX5_worked_110 hq
  replace hq := hq.2
  by_cases c7 : x1 = 12
  · replace hq := hq.1 c7
    refine x_tin (tgt := 120) (off := 104) 12 c7 dX5_worked_16 (by decide) (by decide) (by decide) (by decide) ?_
    refine x_iload 0 dX5_worked_120 rfl ?_
    refine x_if_eq (tgt := 139) dX5_worked_122 (by decide) (fun c8 => ?_) (fun c8 => ?_)
    · replace hq := hq.1 c8
      refine xP.pick (lv' := [(0, rv x0), (1, .int x1), (3, .int x3)]) [1, 2, 4] rfl ?_
      exact uX5_worked_139 hq
    · replace hq := hq.2 c8
      refine x_aload_n 1 dX5_worked_125 rfl ?_
      obtain ⟨g9, hq⟩ := hq
      refine x_get (v := rv (fR h x0 1281)) fdX5_62 dX5_worked_126 g9 rfl ?_
      refine x_bipush (v := 31) dX5_worked_129 (by decide) ?_
      refine x_iconst (v := 0) dX5_worked_131 (by decide) ?_
      refine x_iconst (v := 0) dX5_worked_132 (by decide) ?_
      refine x_iconst (v := 0) dX5_worked_133 (by decide) ?_
      refine x_iconst (v := 0) dX5_worked_134 (by decide) ?_
      obtain ⟨g10, hq⟩ := hq
      obtain ⟨g11, g12, hq⟩ := hq
      refine x_callV (Yc := YX2_put) (as := [.int 31, .int 0, .int 0, .int 0, .int 0]) (st := []) q2494 mvX2_put g10 rfl dX5_worked_135 (xle (xal1 (rv_cat _) (xal1 rfl (xal1 rfl (xal1 rfl (xal1 rfl (xal1 rfl xal0)))))) (by decide)) (xfr g11) (xlo xsw0 (by decide) g12) (xKi hq (fun x14 h13 hq e15 => ?_) (fun _ _ q _ => q))
      replace hq := hq e15
      refine x_pop dX5_worked_138 rfl ?_
      refine xP.pick (lv' := [(0, rv x0), (1, .int x1), (3, .int x3)]) [1, 2, 4] rfl ?_
      exact uX5_worked_139 hq
  replace hq := hq.2
  by_cases c16 : x1 = 13
  · replace hq := hq.1 c16
    refine x_tin (tgt := 120) (off := 104) 13 c16 dX5_worked_16 (by decide) (by decide) (by decide) (by decide) ?_
    refine x_iload 0 dX5_worked_120 rfl ?_
    refine x_if_eq (tgt := 139) dX5_worked_122 (by decide) (fun c17 => ?_) (fun c17 => ?_)
    · replace hq := hq.1 c17
      refine xP.pick (lv' := [(0, rv x0), (1, .int x1), (3, .int x3)]) [1, 2, 4] rfl ?_
      exact uX5_worked_139 hq
    · replace hq := hq.2 c17
      refine x_aload_n 1 dX5_worked_125 rfl ?_
      obtain ⟨g18, hq⟩ := hq
      refine x_get (v := rv (fR h x0 1281)) fdX5_62 dX5_worked_126 g18 rfl ?_
      refine x_bipush (v := 31) dX5_worked_129 (by decide) ?_
      refine x_iconst (v := 0) dX5_worked_131 (by decide) ?_
      refine x_iconst (v := 0) dX5_worked_132 (by decide) ?_
      refine x_iconst (v := 0) dX5_worked_133 (by decide) ?_
      refine x_iconst (v := 0) dX5_worked_134 (by decide) ?_
      obtain ⟨g19, hq⟩ := hq
      obtain ⟨g20, g21, hq⟩ := hq
      refine x_callV (Yc := YX2_put) (as := [.int 31, .int 0, .int 0, .int 0, .int 0]) (st := []) q2494 mvX2_put g19 rfl dX5_worked_135 (xle (xal1 (rv_cat _) (xal1 rfl (xal1 rfl (xal1 rfl (xal1 rfl (xal1 rfl xal0)))))) (by decide)) (xfr g20) (xlo xsw0 (by decide) g21) (xKi hq (fun x23 h22 hq e24 => ?_) (fun _ _ q _ => q))
      replace hq := hq e24
      refine x_pop dX5_worked_138 rfl ?_
      refine xP.pick (lv' := [(0, rv x0), (1, .int x1), (3, .int x3)]) [1, 2, 4] rfl ?_
      exact uX5_worked_139 hq
  replace hq := hq.2
  by_cases c25 : x1 = 14
  · replace hq := hq.1 c25
    refine x_tin (tgt := 120) (off := 104) 14 c25 dX5_worked_16 (by decide) (by decide) (by decide) (by decide) ?_
    refine x_iload 0 dX5_worked_120 rfl ?_
    refine x_if_eq (tgt := 139) dX5_worked_122 (by decide) (fun c26 => ?_) (fun c26 => ?_)
    · replace hq := hq.1 c26
      refine xP.pick (lv' := [(0, rv x0), (1, .int x1), (3, .int x3)]) [1, 2, 4] rfl ?_
      exact uX5_worked_139 hq
    · replace hq := hq.2 c26
      refine x_aload_n 1 dX5_worked_125 rfl ?_
      obtain ⟨g27, hq⟩ := hq
      refine x_get (v := rv (fR h x0 1281)) fdX5_62 dX5_worked_126 g27 rfl ?_
      refine x_bipush (v := 31) dX5_worked_129 (by decide) ?_
      refine x_iconst (v := 0) dX5_worked_131 (by decide) ?_
      refine x_iconst (v := 0) dX5_worked_132 (by decide) ?_
      refine x_iconst (v := 0) dX5_worked_133 (by decide) ?_
      refine x_iconst (v := 0) dX5_worked_134 (by decide) ?_
      obtain ⟨g28, hq⟩ := hq
      obtain ⟨g29, g30, hq⟩ := hq
      refine x_callV (Yc := YX2_put) (as := [.int 31, .int 0, .int 0, .int 0, .int 0]) (st := []) q2494 mvX2_put g28 rfl dX5_worked_135 (xle (xal1 (rv_cat _) (xal1 rfl (xal1 rfl (xal1 rfl (xal1 rfl (xal1 rfl xal0)))))) (by decide)) (xfr g29) (xlo xsw0 (by decide) g30) (xKi hq (fun x32 h31 hq e33 => ?_) (fun _ _ q _ => q))
      replace hq := hq e33
      refine x_pop dX5_worked_138 rfl ?_
      refine xP.pick (lv' := [(0, rv x0), (1, .int x1), (3, .int x3)]) [1, 2, 4] rfl ?_
      exact uX5_worked_139 hq
  replace hq := hq.2
  by_cases c34 : x1 = 15
  · replace hq := hq.1 c34
    refine x_tin (tgt := 193) (off := 177) 15 c34 dX5_worked_16 (by decide) (by decide) (by decide) (by decide) ?_
    refine x_aload_n 1 dX5_worked_193 rfl ?_
    obtain ⟨g35, hq⟩ := hq
    refine x_get (v := rv (fR h x0 1282)) fdX5_20 dX5_worked_194 g35 rfl ?_
    exact x_aret rfl xty_O dX5_worked_197 hq
  replace hq := hq.2
  by_cases c36 : x1 = 16
  · replace hq := hq.1 c36
    refine x_tin (tgt := 198) (off := 182) 16 c36 dX5_worked_16 (by decide) (by decide) (by decide) (by decide) ?_
    refine x_aload_n 1 dX5_worked_198 rfl ?_
    obtain ⟨g37, hq⟩ := hq
    refine x_get (v := rv (fR h x0 1281)) fdX5_62 dX5_worked_199 g37 rfl ?_
    refine x_bipush (v := 77) dX5_worked_202 (by decide) ?_
    refine x_iconst (v := 0) dX5_worked_204 (by decide) ?_
    refine x_iconst (v := 0) dX5_worked_205 (by decide) ?_
    refine x_iconst (v := 0) dX5_worked_206 (by decide) ?_
    refine x_iload_n 4 dX5_worked_207 rfl ?_
    obtain ⟨g38, hq⟩ := hq
    obtain ⟨g39, g40, hq⟩ := hq
    refine x_callV (Yc := YX2_put) (as := [.int 77, .int 0, .int 0, .int 0, .int x3]) (st := []) q2494 mvX2_put g38 rfl dX5_worked_208 (xle (xal1 (rv_cat _) (xal1 rfl (xal1 rfl (xal1 rfl (xal1 rfl (xal1 rfl xal0)))))) (by decide)) (xfr g39) (xlo xsw0 (by decide) g40) (xKi hq (fun x42 h41 hq e43 => ?_) (fun _ _ q _ => q))
    replace hq := hq e43
    refine x_pop dX5_worked_211 rfl ?_
    refine x_aload_n 1 dX5_worked_212 rfl ?_
    have t44 : tg h41 x0 = 6 := e43.tg g37 (by decide)
    refine x_get (v := rv (fR h41 x0 1285)) fdX5_32 dX5_worked_213 t44 rfl ?_
    exact x_aret rfl xty_O dX5_worked_216 hq
  replace hq := hq.2
  by_cases c45 : x1 = 17
  · replace hq := hq.1 c45
    refine x_tin (tgt := 217) (off := 201) 17 c45 dX5_worked_16 (by decide) (by decide) (by decide) (by decide) ?_
    refine x_aload_n 1 dX5_worked_217 rfl ?_
    obtain ⟨g46, hq⟩ := hq
    refine x_get (v := rv (fR h x0 1281)) fdX5_62 dX5_worked_218 g46 rfl ?_
    refine x_bipush (v := 78) dX5_worked_221 (by decide) ?_
    refine x_aload_n 3 dX5_worked_223 rfl ?_
    obtain ⟨g47, hq⟩ := hq
    refine x_getN (v := .int (fI h x2 1541)) gfX5_338 dX5_worked_224 g47 rfl ?_
    refine x_aload_n 3 dX5_worked_227 rfl ?_
    refine x_getN (v := .int (fI h x2 1542)) gfX5_335 dX5_worked_228 g47 rfl ?_
    refine x_iload_n 2 dX5_worked_231 rfl ?_
    refine x_bipush (v := 17) dX5_worked_232 (by decide) ?_
    refine x_icmp_ne (tgt := 241) dX5_worked_234 (by decide) (fun c48 => ?_) (fun c48 => ?_)
    · replace hq := hq.1 c48
      refine x_iconst (v := (-1)) dX5_worked_241 (by decide) ?_
      refine xP.pick (lv' := [(2, rv x2), (3, .int x3)]) [3, 4] rfl ?_
      exact uX5_worked_242 hq
    · replace hq := hq.2 c48
      refine x_iconst (v := 1) dX5_worked_237 (by decide) ?_
      refine x_goto (tgt := 242) dX5_worked_238 (by decide) ?_
      refine xP.pick (lv' := [(2, rv x2), (3, .int x3)]) [3, 4] rfl ?_
      exact uX5_worked_242 hq
  replace hq := hq.2
  by_cases c49 : x1 = 18
  · replace hq := hq.1 c49
    refine x_tin (tgt := 217) (off := 201) 18 c49 dX5_worked_16 (by decide) (by decide) (by decide) (by decide) ?_
    refine x_aload_n 1 dX5_worked_217 rfl ?_
    obtain ⟨g50, hq⟩ := hq
    refine x_get (v := rv (fR h x0 1281)) fdX5_62 dX5_worked_218 g50 rfl ?_
    refine x_bipush (v := 78) dX5_worked_221 (by decide) ?_
    refine x_aload_n 3 dX5_worked_223 rfl ?_
    obtain ⟨g51, hq⟩ := hq
    refine x_getN (v := .int (fI h x2 1541)) gfX5_338 dX5_worked_224 g51 rfl ?_
    refine x_aload_n 3 dX5_worked_227 rfl ?_
    refine x_getN (v := .int (fI h x2 1542)) gfX5_335 dX5_worked_228 g51 rfl ?_
    refine x_iload_n 2 dX5_worked_231 rfl ?_
    refine x_bipush (v := 17) dX5_worked_232 (by decide) ?_
    refine x_icmp_ne (tgt := 241) dX5_worked_234 (by decide) (fun c52 => ?_) (fun c52 => ?_)
    · replace hq := hq.1 c52
      refine x_iconst (v := (-1)) dX5_worked_241 (by decide) ?_
      refine xP.pick (lv' := [(2, rv x2), (3, .int x3)]) [3, 4] rfl ?_
      exact uX5_worked_242 hq
    · replace hq := hq.2 c52
      refine x_iconst (v := 1) dX5_worked_237 (by decide) ?_
      refine x_goto (tgt := 242) dX5_worked_238 (by decide) ?_
      refine xP.pick (lv' := [(2, rv x2), (3, .int x3)]) [3, 4] rfl ?_
      exact uX5_worked_242 hq
  replace hq := hq.2
  replace hq := hq c1 c4 c7 c16 c25 c34 c36 c45 c49
  have nc1 := lv_neT c1 (show (10 : Int32).toInt = 10 from by decide)
  have nc4 := lv_neT c4 (show (11 : Int32).toInt = 11 from by decide)
  have nc7 := lv_neT c7 (show (12 : Int32).toInt = 12 from by decide)
  have nc16 := lv_neT c16 (show (13 : Int32).toInt = 13 from by decide)
  have nc25 := lv_neT c25 (show (14 : Int32).toInt = 14 from by decide)
  have nc34 := lv_neT c34 (show (15 : Int32).toInt = 15 from by decide)
  have nc36 := lv_neT c36 (show (16 : Int32).toInt = 16 from by decide)
  have nc45 := lv_neT c45 (show (17 : Int32).toInt = 17 from by decide)
  have nc49 := lv_neT c49 (show (18 : Int32).toInt = 18 from by decide)
  refine x_tout (tgt := 249) dX5_worked_16 (by omega) (by decide) ?_
  refine x_aload_n 1 dX5_worked_249 rfl ?_
  obtain ⟨g53, hq⟩ := hq
  refine x_get (v := rv (fR h x0 1281)) fdX5_62 dX5_worked_250 g53 rfl ?_
  refine x_bipush (v := 79) dX5_worked_253 (by decide) ?_
  refine x_iconst (v := 0) dX5_worked_255 (by decide) ?_
  refine x_iconst (v := 0) dX5_worked_256 (by decide) ?_
  refine x_iconst (v := 0) dX5_worked_257 (by decide) ?_
  refine x_iconst (v := 0) dX5_worked_258 (by decide) ?_
  obtain ⟨g54, hq⟩ := hq
  obtain ⟨g55, g56, hq⟩ := hq
  refine x_callV (Yc := YX2_put) (as := [.int 79, .int 0, .int 0, .int 0, .int 0]) (st := []) q2494 mvX2_put g54 rfl dX5_worked_259 (xle (xal1 (rv_cat _) (xal1 rfl (xal1 rfl (xal1 rfl (xal1 rfl (xal1 rfl xal0)))))) (by decide)) (xfr g55) (xlo xsw0 (by decide) g56) (xKi hq (fun x58 h57 hq e59 => ?_) (fun _ _ q _ => q))
  replace hq := hq e59
  refine x_pop dX5_worked_262 rfl ?_
  refine x_aload_n 1 dX5_worked_263 rfl ?_
  have t60 : tg h57 x0 = 6 := e59.tg g53 (by decide)
  refine x_get (v := rv (fR h57 x0 1284)) fdX5_29 dX5_worked_264 t60 rfl ?_
  exact x_aret rfl xty_O dX5_worked_267 hq
set_option maxRecDepth 100000 in
def bX5_worked (G : xG) (fr lo : Nat) (x0 : Nat) (x1 : Int32) (x2 : Nat) (x3 : Int32) (h : xH) (Q : Outcome → xH → Prop) : Prop := tg h x0 = 6 ∧ ((¬ x2 = (fR h x0 1282) → bX5_worked_13 G fr lo x0 x1 x2 x3 0 h Q) ∧ (x2 = (fR h x0 1282) → bX5_worked_13 G fr lo x0 x1 x2 x3 1 h Q))
set_option maxRecDepth 100000 in
theorem uX5_worked {G : xG} {fr lo : Nat} {x0 : Nat} {x1 : Int32} {x2 : Nat} {x3 : Int32} {h : xH} {Q : Outcome → xH → Prop} (hq : bX5_worked G fr lo x0 x1 x2 x3 h Q) : xP G YX5_worked fr lo 0 [(0, rv x0), (1, .int x1), (2, rv x2), (3, .int x3)] [] h Q := by
  unfold bX5_worked at hq
  refine x_aload_n 2 dX5_worked_0 rfl ?_
  refine x_aload_n 0 dX5_worked_1 rfl ?_
  obtain ⟨g1, hq⟩ := hq
  refine x_get (v := rv (fR h x0 1282)) fdX5_20 dX5_worked_2 g1 rfl ?_
  refine x_acmp_ne (tgt := 12) dX5_worked_5 (by decide) (fun c2 => ?_) (fun c2 => ?_)
  · replace hq := hq.1 c2
    refine x_iconst (v := 0) dX5_worked_12 (by decide) ?_
    exact uX5_worked_13 hq
  · replace hq := hq.2 c2
    refine x_iconst (v := 1) dX5_worked_8 (by decide) ?_
    refine x_goto (tgt := 13) dX5_worked_9 (by decide) ?_
    exact uX5_worked_13 hq
theorem rX5_worked {G : xG} {fr lo : Nat} {x0 : Nat} {x1 : Int32} {x2 : Nat} {x3 : Int32} {h : xH} {Q : Outcome → xH → Prop} (hq : bX5_worked G fr lo x0 x1 x2 x3 h Q) : xR G YX5_worked fr lo [rv x0, .int x1, rv x2, .int x3] h Q := by
  show xP _ _ _ _ _ (lv_args 0 _) _ _ _
  rw [show lv_args 0 [rv x0, .int x1, rv x2, .int x3] = [(0, rv x0), (1, .int x1), (2, rv x2), (3, .int x3)] from (xla1 (rv_cat _) (xla1 rfl (xla1 (rv_cat _) (xla1 rfl xla0))))]
  exact uX5_worked hq
set_option maxRecDepth 100000 in
theorem dX5_named_0 : decode cX5_named 0 = .ok (.aload_n 0, 1) := by decide +kernel
set_option maxRecDepth 100000 in
theorem dX5_named_1 : decode cX5_named 1 = .ok (.aload_n 1, 1) := by decide +kernel
set_option maxRecDepth 100000 in
theorem dX5_named_2 : decode cX5_named 2 = .ok (.invokevirtual 195, 3) := by decide +kernel
set_option maxRecDepth 100000 in
theorem dX5_named_5 : decode cX5_named 5 = .ok (.astore_n 2, 1) := by decide +kernel
set_option maxRecDepth 100000 in
theorem dX5_named_6 : decode cX5_named 6 = .ok (.aload_n 1, 1) := by decide +kernel
set_option maxRecDepth 100000 in
theorem dX5_named_7 : decode cX5_named 7 = .ok (.getfield 293, 3) := by decide +kernel
set_option maxRecDepth 100000 in
theorem dX5_named_10 : decode cX5_named 10 = .ok (.ifCond .ne 68, 3) := by decide +kernel
set_option maxRecDepth 100000 in
theorem dX5_named_13 : decode cX5_named 13 = .ok (.aload_n 2, 1) := by decide +kernel
set_option maxRecDepth 100000 in
theorem dX5_named_14 : decode cX5_named 14 = .ok (.getfield 199, 3) := by decide +kernel
set_option maxRecDepth 100000 in
theorem dX5_named_17 : decode cX5_named 17 = .ok (.ifCond .ne 61, 3) := by decide +kernel
set_option maxRecDepth 100000 in
theorem dX5_named_20 : decode cX5_named 20 = .ok (.aload_n 2, 1) := by decide +kernel
set_option maxRecDepth 100000 in
theorem dX5_named_21 : decode cX5_named 21 = .ok (.getfield 249, 3) := by decide +kernel
set_option maxRecDepth 100000 in
theorem dX5_named_24 : decode cX5_named 24 = .ok (.getfield 289, 3) := by decide +kernel
set_option maxRecDepth 100000 in
theorem dX5_named_27 : decode cX5_named 27 = .ok (.iconst 1, 1) := by decide +kernel
set_option maxRecDepth 100000 in
theorem dX5_named_28 : decode cX5_named 28 = .ok (.if_icmp .ne 29, 3) := by decide +kernel
set_option maxRecDepth 100000 in
theorem dX5_named_31 : decode cX5_named 31 = .ok (.aload_n 0, 1) := by decide +kernel
set_option maxRecDepth 100000 in
theorem dX5_named_32 : decode cX5_named 32 = .ok (.getfield 62, 3) := by decide +kernel
set_option maxRecDepth 100000 in
theorem dX5_named_35 : decode cX5_named 35 = .ok (.iconst 1, 1) := by decide +kernel
set_option maxRecDepth 100000 in
theorem dX5_named_36 : decode cX5_named 36 = .ok (.aload_n 0, 1) := by decide +kernel
set_option maxRecDepth 100000 in
theorem dX5_named_37 : decode cX5_named 37 = .ok (.getfield 62, 3) := by decide +kernel
set_option maxRecDepth 100000 in
theorem dX5_named_40 : decode cX5_named 40 = .ok (.aload_n 2, 1) := by decide +kernel
set_option maxRecDepth 100000 in
theorem dX5_named_41 : decode cX5_named 41 = .ok (.getfield 250, 3) := by decide +kernel
set_option maxRecDepth 100000 in
theorem dX5_named_44 : decode cX5_named 44 = .ok (.invokevirtual 796, 3) := by decide +kernel
set_option maxRecDepth 100000 in
theorem dX5_named_47 : decode cX5_named 47 = .ok (.iconst 0, 1) := by decide +kernel
set_option maxRecDepth 100000 in
theorem dX5_named_48 : decode cX5_named 48 = .ok (.iconst 0, 1) := by decide +kernel
set_option maxRecDepth 100000 in
theorem dX5_named_49 : decode cX5_named 49 = .ok (.iconst 0, 1) := by decide +kernel
set_option maxRecDepth 100000 in
theorem dX5_named_50 : decode cX5_named 50 = .ok (.invokevirtual 506, 3) := by decide +kernel
set_option maxRecDepth 100000 in
theorem dX5_named_53 : decode cX5_named 53 = .ok (.pop, 1) := by decide +kernel
set_option maxRecDepth 100000 in
theorem dX5_named_54 : decode cX5_named 54 = .ok (.goto 19, 3) := by decide +kernel
set_option maxRecDepth 100000 in
theorem dX5_named_57 : decode cX5_named 57 = .ok (.aload_n 0, 1) := by decide +kernel
set_option maxRecDepth 100000 in
theorem dX5_named_58 : decode cX5_named 58 = .ok (.getfield 62, 3) := by decide +kernel
set_option maxRecDepth 100000 in
theorem dX5_named_61 : decode cX5_named 61 = .ok (.iconst 0, 1) := by decide +kernel
set_option maxRecDepth 100000 in
theorem dX5_named_62 : decode cX5_named 62 = .ok (.aload_n 2, 1) := by decide +kernel
set_option maxRecDepth 100000 in
theorem dX5_named_63 : decode cX5_named 63 = .ok (.getfield 112, 3) := by decide +kernel
set_option maxRecDepth 100000 in
theorem dX5_named_66 : decode cX5_named 66 = .ok (.iconst 0, 1) := by decide +kernel
set_option maxRecDepth 100000 in
theorem dX5_named_67 : decode cX5_named 67 = .ok (.iconst 0, 1) := by decide +kernel
set_option maxRecDepth 100000 in
theorem dX5_named_68 : decode cX5_named 68 = .ok (.iconst 0, 1) := by decide +kernel
set_option maxRecDepth 100000 in
theorem dX5_named_69 : decode cX5_named 69 = .ok (.invokevirtual 506, 3) := by decide +kernel
set_option maxRecDepth 100000 in
theorem dX5_named_72 : decode cX5_named 72 = .ok (.pop, 1) := by decide +kernel
set_option maxRecDepth 100000 in
theorem dX5_named_73 : decode cX5_named 73 = .ok (.aload_n 2, 1) := by decide +kernel
set_option maxRecDepth 100000 in
theorem dX5_named_74 : decode cX5_named 74 = .ok (.getfield 249, 3) := by decide +kernel
set_option maxRecDepth 100000 in
theorem dX5_named_77 : decode cX5_named 77 = .ok (.areturn, 1) := by decide +kernel
set_option maxRecDepth 100000 in
theorem dX5_named_78 : decode cX5_named 78 = .ok (.aload_n 1, 1) := by decide +kernel
set_option maxRecDepth 100000 in
theorem dX5_named_79 : decode cX5_named 79 = .ok (.getfield 293, 3) := by decide +kernel
set_option maxRecDepth 100000 in
theorem dX5_named_82 : decode cX5_named 82 = .ok (.ifCond .ne 21, 3) := by decide +kernel
set_option maxRecDepth 100000 in
theorem dX5_named_85 : decode cX5_named 85 = .ok (.aload_n 2, 1) := by decide +kernel
set_option maxRecDepth 100000 in
theorem dX5_named_86 : decode cX5_named 86 = .ok (.getfield 199, 3) := by decide +kernel
set_option maxRecDepth 100000 in
theorem dX5_named_89 : decode cX5_named 89 = .ok (.iconst 3, 1) := by decide +kernel
set_option maxRecDepth 100000 in
theorem dX5_named_90 : decode cX5_named 90 = .ok (.if_icmp .ne 13, 3) := by decide +kernel
set_option maxRecDepth 100000 in
theorem dX5_named_93 : decode cX5_named 93 = .ok (.aload_n 2, 1) := by decide +kernel
set_option maxRecDepth 100000 in
theorem dX5_named_94 : decode cX5_named 94 = .ok (.getfield 492, 3) := by decide +kernel
set_option maxRecDepth 100000 in
theorem dX5_named_97 : decode cX5_named 97 = .ok (.getfield 525, 3) := by decide +kernel
set_option maxRecDepth 100000 in
theorem dX5_named_100 : decode cX5_named 100 = .ok (.ifCond .ne 27, 3) := by decide +kernel
set_option maxRecDepth 100000 in
theorem dX5_named_103 : decode cX5_named 103 = .ok (.aload_n 1, 1) := by decide +kernel
set_option maxRecDepth 100000 in
theorem dX5_named_104 : decode cX5_named 104 = .ok (.getfield 293, 3) := by decide +kernel
set_option maxRecDepth 100000 in
theorem dX5_named_107 : decode cX5_named 107 = .ok (.ifCond .ne 32, 3) := by decide +kernel
set_option maxRecDepth 100000 in
theorem dX5_named_110 : decode cX5_named 110 = .ok (.aload_n 2, 1) := by decide +kernel
set_option maxRecDepth 100000 in
theorem dX5_named_111 : decode cX5_named 111 = .ok (.getfield 199, 3) := by decide +kernel
set_option maxRecDepth 100000 in
theorem dX5_named_114 : decode cX5_named 114 = .ok (.iconst 4, 1) := by decide +kernel
set_option maxRecDepth 100000 in
theorem dX5_named_115 : decode cX5_named 115 = .ok (.if_icmp .ne 24, 3) := by decide +kernel
set_option maxRecDepth 100000 in
theorem dX5_named_118 : decode cX5_named 118 = .ok (.aload_n 2, 1) := by decide +kernel
set_option maxRecDepth 100000 in
theorem dX5_named_119 : decode cX5_named 119 = .ok (.getfield 112, 3) := by decide +kernel
set_option maxRecDepth 100000 in
theorem dX5_named_122 : decode cX5_named 122 = .ok (.bipush 9, 2) := by decide +kernel
set_option maxRecDepth 100000 in
theorem dX5_named_124 : decode cX5_named 124 = .ok (.if_icmp .le 15, 3) := by decide +kernel
set_option maxRecDepth 100000 in
theorem dX5_named_127 : decode cX5_named 127 = .ok (.aload_n 0, 1) := by decide +kernel
set_option maxRecDepth 100000 in
theorem dX5_named_128 : decode cX5_named 128 = .ok (.aload_n 2, 1) := by decide +kernel
set_option maxRecDepth 100000 in
theorem dX5_named_129 : decode cX5_named 129 = .ok (.aconst_null, 1) := by decide +kernel
set_option maxRecDepth 100000 in
theorem dX5_named_130 : decode cX5_named 130 = .ok (.iconst 0, 1) := by decide +kernel
set_option maxRecDepth 100000 in
theorem dX5_named_131 : decode cX5_named 131 = .ok (.aload_n 1, 1) := by decide +kernel
set_option maxRecDepth 100000 in
theorem dX5_named_132 : decode cX5_named 132 = .ok (.invokevirtual 192, 3) := by decide +kernel
set_option maxRecDepth 100000 in
theorem dX5_named_135 : decode cX5_named 135 = .ok (.invokevirtual 820, 3) := by decide +kernel
set_option maxRecDepth 100000 in
theorem dX5_named_138 : decode cX5_named 138 = .ok (.areturn, 1) := by decide +kernel
set_option maxRecDepth 100000 in
theorem dX5_named_139 : decode cX5_named 139 = .ok (.aload_n 0, 1) := by decide +kernel
set_option maxRecDepth 100000 in
theorem dX5_named_140 : decode cX5_named 140 = .ok (.aload_n 1, 1) := by decide +kernel
set_option maxRecDepth 100000 in
theorem dX5_named_141 : decode cX5_named 141 = .ok (.invokevirtual 688, 3) := by decide +kernel
set_option maxRecDepth 100000 in
theorem dX5_named_144 : decode cX5_named 144 = .ok (.astore_n 3, 1) := by decide +kernel
set_option maxRecDepth 100000 in
theorem dX5_named_145 : decode cX5_named 145 = .ok (.aload_n 0, 1) := by decide +kernel
set_option maxRecDepth 100000 in
theorem dX5_named_146 : decode cX5_named 146 = .ok (.aload_n 3, 1) := by decide +kernel
set_option maxRecDepth 100000 in
theorem dX5_named_147 : decode cX5_named 147 = .ok (.aload_n 1, 1) := by decide +kernel
set_option maxRecDepth 100000 in
theorem dX5_named_148 : decode cX5_named 148 = .ok (.invokevirtual 192, 3) := by decide +kernel
set_option maxRecDepth 100000 in
theorem dX5_named_151 : decode cX5_named 151 = .ok (.invokevirtual 790, 3) := by decide +kernel
set_option maxRecDepth 100000 in
theorem dX5_named_154 : decode cX5_named 154 = .ok (.aload_n 3, 1) := by decide +kernel
set_option maxRecDepth 100000 in
theorem dX5_named_155 : decode cX5_named 155 = .ok (.invokestatic 788, 3) := by decide +kernel
set_option maxRecDepth 100000 in
theorem dX5_named_158 : decode cX5_named 158 = .ok (.areturn, 1) := by decide +kernel
set_option maxRecDepth 100000 in
def bX5_named_139 (G : xG) (fr lo : Nat) (x0 : Nat) (x1 : Nat) (h : xH) (Q : Outcome → xH → Prop) : Prop := tg h x0 = 6 ∧ 1 ≤ fr ∧ 17 ≤ lo ∧ xRr G YX5_variable (fr - 1) (lo - 17) [rv x0, rv x1] h (fun x5 h4 => xext h h4 → tg h4 x1 = 16 ∧ 1 ≤ fr ∧ 14 ≤ lo ∧ xRi G YX15_place (fr - 1) (lo - 14) [rv x1] h4 (fun x11 h10 => xext h4 h10 → 1 ≤ fr ∧ 14 ≤ lo ∧ xRv G YX5_load (fr - 1) (lo - 14) [rv x0, rv x5, .int x11] h10 (fun h17 => xext h10 h17 → 1 ≤ fr ∧ 12 ≤ lo ∧ xRr G YX5_own (fr - 1) (lo - 12) [rv x5] h17 (fun x23 h22 => xext h17 h22 → Q (.returned (some (rv x23))) h22) (fun r h2 => Q (.threw r) h2)) (fun r h2 => Q (.threw r) h2)) (fun r h2 => Q (.threw r) h2)) (fun r h2 => Q (.threw r) h2)
set_option maxRecDepth 100000 in
theorem uX5_named_139 {G : xG} {fr lo : Nat} {x0 : Nat} {x1 : Nat} {h : xH} {Q : Outcome → xH → Prop} (hq : bX5_named_139 G fr lo x0 x1 h Q) : xP G YX5_named fr lo 139 [(0, rv x0), (1, rv x1)] [] h Q := by
  unfold bX5_named_139 at hq
  refine x_aload_n 0 dX5_named_139 rfl ?_
  refine x_aload_n 1 dX5_named_140 rfl ?_
  obtain ⟨g1, hq⟩ := hq
  obtain ⟨g2, g3, hq⟩ := hq
  refine x_callV (Yc := YX5_variable) (as := [rv x1]) (st := []) q2590 mvX5_variable g1 rfl dX5_named_141 (xle (xal1 (rv_cat _) (xal1 (rv_cat _) xal0)) (by decide)) (xfr g2) (xlo xsw0 (by decide) g3) (xKr hq (fun x5 h4 hq e6 => ?_) (fun _ _ q _ => q))
  replace hq := hq e6
  refine x_astore_n (lv' := [(3, rv x5), (0, rv x0), (1, rv x1)]) dX5_named_144 (by decide) rfl ?_
  refine x_aload_n 1 dX5_named_145 rfl ?_
  refine x_aload_n 0 dX5_named_146 rfl ?_
  refine x_aload_n 2 dX5_named_147 rfl ?_
  obtain ⟨g7, hq⟩ := hq
  obtain ⟨g8, g9, hq⟩ := hq
  refine x_callV (Yc := YX15_place) (as := []) (st := [rv x5, rv x0]) q2013 mvX15_place g7 rfl dX5_named_148 (xle (xal1 (rv_cat _) xal0) (by decide)) (xfr g8) (xlo (xsw1 (rv_cat _) (xsw1 (rv_cat _) xsw0)) (by decide) g9) (xKi hq (fun x11 h10 hq e12 => ?_) (fun _ _ q _ => q))
  replace hq := hq e12
  have t13 : tg h4 x0 = 6 := e6.tg g1 (by decide)
  have t14 : tg h10 x0 = 6 := e12.tg t13 (by decide)
  obtain ⟨g15, g16, hq⟩ := hq
  refine x_callV (Yc := YX5_load) (as := [rv x5, .int x11]) (st := []) q2649 mvX5_load t14 rfl dX5_named_151 (xle (xal1 (rv_cat _) (xal1 (rv_cat _) (xal1 rfl xal0))) (by decide)) (xfr g15) (xlo xsw0 (by decide) g16) (xKv hq (fun h17 hq e19 => ?_) (fun _ _ q _ => q))
  replace hq := hq e19
  refine x_aload_n 0 dX5_named_154 rfl ?_
  obtain ⟨g20, g21, hq⟩ := hq
  refine x_callS (Yc := YX5_own) (as := [rv x5]) (st := []) q2626 msX5_own rfl dX5_named_155 (xle (xal1 (rv_cat _) xal0) (by decide)) (xfr g20) (xlo xsw0 (by decide) g21) (xKr hq (fun x23 h22 hq e24 => ?_) (fun _ _ q _ => q))
  replace hq := hq e24
  exact x_aret rfl xty_O dX5_named_158 hq
set_option maxRecDepth 100000 in
def bX5_named_127 (G : xG) (fr lo : Nat) (x0 : Nat) (x1 : Nat) (x2 : Nat) (h : xH) (Q : Outcome → xH → Prop) : Prop := tg h x1 = 16 ∧ 1 ≤ fr ∧ 16 ≤ lo ∧ xRi G YX15_place (fr - 1) (lo - 16) [rv x1] h (fun x5 h4 => xext h h4 → tg h4 x0 = 6 ∧ 1 ≤ fr ∧ 20 ≤ lo ∧ xRr G YX5_function (fr - 1) (lo - 20) [rv x0, rv x2, rv 0, .int 0, .int x5] h4 (fun x11 h10 => xext h4 h10 → Q (.returned (some (rv x11))) h10) (fun r h2 => Q (.threw r) h2)) (fun r h2 => Q (.threw r) h2)
set_option maxRecDepth 100000 in
theorem uX5_named_127 {G : xG} {fr lo : Nat} {x0 : Nat} {x1 : Nat} {x2 : Nat} {h : xH} {Q : Outcome → xH → Prop} (hq : bX5_named_127 G fr lo x0 x1 x2 h Q) : xP G YX5_named fr lo 127 [(0, rv x0), (1, rv x1), (2, rv x2)] [] h Q := by
  unfold bX5_named_127 at hq
  refine x_aload_n 0 dX5_named_127 rfl ?_
  refine x_aload_n 2 dX5_named_128 rfl ?_
  refine x_null dX5_named_129 ?_
  refine x_iconst (v := 0) dX5_named_130 (by decide) ?_
  refine x_aload_n 1 dX5_named_131 rfl ?_
  obtain ⟨g1, hq⟩ := hq
  obtain ⟨g2, g3, hq⟩ := hq
  refine x_callV (Yc := YX15_place) (as := []) (st := [.int 0, rv 0, rv x2, rv x0]) q2013 mvX15_place g1 rfl dX5_named_132 (xle (xal1 (rv_cat _) xal0) (by decide)) (xfr g2) (xlo (xsw1 rfl (xsw1 (rv_cat _) (xsw1 (rv_cat _) (xsw1 (rv_cat _) xsw0)))) (by decide) g3) (xKi hq (fun x5 h4 hq e6 => ?_) (fun _ _ q _ => q))
  replace hq := hq e6
  obtain ⟨g7, hq⟩ := hq
  obtain ⟨g8, g9, hq⟩ := hq
  refine x_callV (Yc := YX5_function) (as := [rv x2, rv 0, .int 0, .int x5]) (st := []) q2553 mvX5_function g7 rfl dX5_named_135 (xle (xal1 (rv_cat _) (xal1 (rv_cat _) (xal1 (rv_cat _) (xal1 rfl (xal1 rfl xal0))))) (by decide)) (xfr g8) (xlo xsw0 (by decide) g9) (xKr hq (fun x11 h10 hq e12 => ?_) (fun _ _ q _ => q))
  replace hq := hq e12
  exact x_aret rfl xty_O dX5_named_138 hq
set_option maxRecDepth 100000 in
def bX5_named_103 (G : xG) (fr lo : Nat) (x0 : Nat) (x1 : Nat) (x2 : Nat) (h : xH) (Q : Outcome → xH → Prop) : Prop := tg h x1 = 16 ∧ ((¬ (fI h x1 3845) = 0 → bX5_named_139 G fr lo x0 x1 h Q) ∧ ((fI h x1 3845) = 0 → tg h x2 = 9 ∧ ((¬ (fI h x2 2048) = 4 → bX5_named_139 G fr lo x0 x1 h Q) ∧ ((fI h x2 2048) = 4 → (((fI h x2 2051) ≤ 9 → bX5_named_139 G fr lo x0 x1 h Q) ∧ (¬ (fI h x2 2051) ≤ 9 → bX5_named_127 G fr lo x0 x1 x2 h Q))))))
set_option maxRecDepth 100000 in
theorem uX5_named_103 {G : xG} {fr lo : Nat} {x0 : Nat} {x1 : Nat} {x2 : Nat} {h : xH} {Q : Outcome → xH → Prop} (hq : bX5_named_103 G fr lo x0 x1 x2 h Q) : xP G YX5_named fr lo 103 [(0, rv x0), (1, rv x1), (2, rv x2)] [] h Q := by
  unfold bX5_named_103 at hq
  refine x_aload_n 1 dX5_named_103 rfl ?_
  obtain ⟨g1, hq⟩ := hq
  refine x_getN (v := .int (fI h x1 3845)) gfX5_293 dX5_named_104 g1 rfl ?_
  refine x_if_ne (tgt := 139) dX5_named_107 (by decide) (fun c2 => ?_) (fun c2 => ?_)
  · replace hq := hq.1 c2
    refine xP.pick (lv' := [(0, rv x0), (1, rv x1)]) [0, 1] rfl ?_
    exact uX5_named_139 hq
  · replace hq := hq.2 c2
    refine x_aload_n 2 dX5_named_110 rfl ?_
    obtain ⟨g3, hq⟩ := hq
    refine x_getN (v := .int (fI h x2 2048)) gfX5_199 dX5_named_111 g3 rfl ?_
    refine x_iconst (v := 4) dX5_named_114 (by decide) ?_
    refine x_icmp_ne (tgt := 139) dX5_named_115 (by decide) (fun c4 => ?_) (fun c4 => ?_)
    · replace hq := hq.1 c4
      refine xP.pick (lv' := [(0, rv x0), (1, rv x1)]) [0, 1] rfl ?_
      exact uX5_named_139 hq
    · replace hq := hq.2 c4
      refine x_aload_n 2 dX5_named_118 rfl ?_
      refine x_getN (v := .int (fI h x2 2051)) gfX5_112 dX5_named_119 g3 rfl ?_
      refine x_bipush (v := 9) dX5_named_122 (by decide) ?_
      refine x_icmp_le (tgt := 139) dX5_named_124 (by decide) (fun c5 => ?_) (fun c5 => ?_)
      · replace hq := hq.1 c5
        refine xP.pick (lv' := [(0, rv x0), (1, rv x1)]) [0, 1] rfl ?_
        exact uX5_named_139 hq
      · replace hq := hq.2 c5
        exact uX5_named_127 hq
set_option maxRecDepth 100000 in
def bX5_named_78 (G : xG) (fr lo : Nat) (x0 : Nat) (x1 : Nat) (x2 : Nat) (h : xH) (Q : Outcome → xH → Prop) : Prop := tg h x1 = 16 ∧ ((¬ (fI h x1 3845) = 0 → bX5_named_103 G fr lo x0 x1 x2 h Q) ∧ ((fI h x1 3845) = 0 → tg h x2 = 9 ∧ ((¬ (fI h x2 2048) = 3 → bX5_named_103 G fr lo x0 x1 x2 h Q) ∧ ((fI h x2 2048) = 3 → tg h (fR h x2 2059) = 17 ∧ ((¬ (fI h (fR h x2 2059) 4097) = 0 → bX5_named_127 G fr lo x0 x1 x2 h Q) ∧ ((fI h (fR h x2 2059) 4097) = 0 → bX5_named_103 G fr lo x0 x1 x2 h Q))))))
set_option maxRecDepth 100000 in
theorem uX5_named_78 {G : xG} {fr lo : Nat} {x0 : Nat} {x1 : Nat} {x2 : Nat} {h : xH} {Q : Outcome → xH → Prop} (hq : bX5_named_78 G fr lo x0 x1 x2 h Q) : xP G YX5_named fr lo 78 [(0, rv x0), (1, rv x1), (2, rv x2)] [] h Q := by
  unfold bX5_named_78 at hq
  refine x_aload_n 1 dX5_named_78 rfl ?_
  obtain ⟨g1, hq⟩ := hq
  refine x_getN (v := .int (fI h x1 3845)) gfX5_293 dX5_named_79 g1 rfl ?_
  refine x_if_ne (tgt := 103) dX5_named_82 (by decide) (fun c2 => ?_) (fun c2 => ?_)
  · replace hq := hq.1 c2
    exact uX5_named_103 hq
  · replace hq := hq.2 c2
    refine x_aload_n 2 dX5_named_85 rfl ?_
    obtain ⟨g3, hq⟩ := hq
    refine x_getN (v := .int (fI h x2 2048)) gfX5_199 dX5_named_86 g3 rfl ?_
    refine x_iconst (v := 3) dX5_named_89 (by decide) ?_
    refine x_icmp_ne (tgt := 103) dX5_named_90 (by decide) (fun c4 => ?_) (fun c4 => ?_)
    · replace hq := hq.1 c4
      exact uX5_named_103 hq
    · replace hq := hq.2 c4
      refine x_aload_n 2 dX5_named_93 rfl ?_
      refine x_getN (v := rv (fR h x2 2059)) gfX5_492 dX5_named_94 g3 rfl ?_
      obtain ⟨g5, hq⟩ := hq
      refine x_getN (v := .int (fI h (fR h x2 2059) 4097)) gfX5_525 dX5_named_97 g5 rfl ?_
      refine x_if_ne (tgt := 127) dX5_named_100 (by decide) (fun c6 => ?_) (fun c6 => ?_)
      · replace hq := hq.1 c6
        exact uX5_named_127 hq
      · replace hq := hq.2 c6
        exact uX5_named_103 hq
set_option maxRecDepth 100000 in
def bX5_named_73 (G : xG) (fr lo : Nat) (x2 : Nat) (h : xH) (Q : Outcome → xH → Prop) : Prop := tg h x2 = 9 ∧ Q (.returned (some (rv (fR h x2 2050)))) h
set_option maxRecDepth 100000 in
theorem uX5_named_73 {G : xG} {fr lo : Nat} {x2 : Nat} {h : xH} {Q : Outcome → xH → Prop} (hq : bX5_named_73 G fr lo x2 h Q) : xP G YX5_named fr lo 73 [(2, rv x2)] [] h Q := by
  unfold bX5_named_73 at hq
  refine x_aload_n 0 dX5_named_73 rfl ?_
  obtain ⟨g1, hq⟩ := hq
  refine x_getN (v := rv (fR h x2 2050)) gfX5_249 dX5_named_74 g1 rfl ?_
  exact x_aret rfl xty_O dX5_named_77 hq
set_option maxRecDepth 100000 in
def bX5_named (G : xG) (fr lo : Nat) (x0 : Nat) (x1 : Nat) (h : xH) (Q : Outcome → xH → Prop) : Prop := tg h x0 = 6 ∧ 1 ≤ fr ∧ 15 ≤ lo ∧ xRr G YX5_find (fr - 1) (lo - 15) [rv x0, rv x1] h (fun x5 h4 => xext h h4 → tg h4 x1 = 16 ∧ ((¬ (fI h4 x1 3845) = 0 → bX5_named_78 G fr lo x0 x1 x5 h4 Q) ∧ ((fI h4 x1 3845) = 0 → tg h4 x5 = 9 ∧ ((¬ (fI h4 x5 2048) = 0 → bX5_named_78 G fr lo x0 x1 x5 h4 Q) ∧ ((fI h4 x5 2048) = 0 → tg h4 (fR h4 x5 2050) = 7 ∧ ((¬ (fI h4 (fR h4 x5 2050) 1536) = 1 → tg h4 (fR h4 x0 1281) = 3 ∧ 1 ≤ fr ∧ 17 ≤ lo ∧ xRi G YX2_put (fr - 1) (lo - 17) [rv (fR h4 x0 1281), .int 0, .int (fI h4 x5 2051), .int 0, .int 0, .int 0] h4 (fun x18 h17 => xext h4 h17 → bX5_named_73 G fr lo x5 h17 Q) (fun r h2 => Q (.threw r) h2)) ∧ ((fI h4 (fR h4 x5 2050) 1536) = 1 → tg h4 (fR h4 x0 1281) = 3 ∧ 1 ≤ fr ∧ 18 ≤ lo ∧ xRi G YX2_real (fr - 1) (lo - 18) [rv (fR h4 x0 1281), .double (fD h4 x5 2055)] h4 (fun x25 h24 => xext h4 h24 → 1 ≤ fr ∧ 17 ≤ lo ∧ xRi G YX2_put (fr - 1) (lo - 17) [rv (fR h4 x0 1281), .int 1, .int x25, .int 0, .int 0, .int 0] h24 (fun x31 h30 => xext h24 h30 → bX5_named_73 G fr lo x5 h30 Q) (fun r h2 => Q (.threw r) h2)) (fun r h2 => Q (.threw r) h2)))))))) (fun r h2 => Q (.threw r) h2)
set_option maxRecDepth 100000 in
theorem uX5_named {G : xG} {fr lo : Nat} {x0 : Nat} {x1 : Nat} {h : xH} {Q : Outcome → xH → Prop} (hq : bX5_named G fr lo x0 x1 h Q) : xP G YX5_named fr lo 0 [(0, rv x0), (1, rv x1)] [] h Q := by
  unfold bX5_named at hq
  refine x_aload_n 0 dX5_named_0 rfl ?_
  refine x_aload_n 1 dX5_named_1 rfl ?_
  obtain ⟨g1, hq⟩ := hq
  obtain ⟨g2, g3, hq⟩ := hq
  refine x_callV (Yc := YX5_find) (as := [rv x1]) (st := []) q2246 mvX5_find g1 rfl dX5_named_2 (xle (xal1 (rv_cat _) (xal1 (rv_cat _) xal0)) (by decide)) (xfr g2) (xlo xsw0 (by decide) g3) (xKr hq (fun x5 h4 hq e6 => ?_) (fun _ _ q _ => q))
  replace hq := hq e6
  refine x_astore_n (lv' := [(2, rv x5), (0, rv x0), (1, rv x1)]) dX5_named_5 (by decide) (by first | rfl | (simp [rv_cat, Value.category]; done) | (simp [rv_cat, Value.category]; decide)) ?_
  refine x_aload_n 2 dX5_named_6 rfl ?_
  obtain ⟨g7, hq⟩ := hq
  refine x_getN (v := .int (fI h4 x1 3845)) gfX5_293 dX5_named_7 g7 rfl ?_
  refine x_if_ne (tgt := 78) dX5_named_10 (by decide) (fun c8 => ?_) (fun c8 => ?_)
  · replace hq := hq.1 c8
    refine xP.pick (lv' := [(0, rv x0), (1, rv x1), (2, rv x5)]) [1, 2, 0] rfl ?_
    exact uX5_named_78 hq
  · replace hq := hq.2 c8
    refine x_aload_n 0 dX5_named_13 rfl ?_
    obtain ⟨g9, hq⟩ := hq
    refine x_getN (v := .int (fI h4 x5 2048)) gfX5_199 dX5_named_14 g9 rfl ?_
    refine x_if_ne (tgt := 78) dX5_named_17 (by decide) (fun c10 => ?_) (fun c10 => ?_)
    · replace hq := hq.1 c10
      refine xP.pick (lv' := [(0, rv x0), (1, rv x1), (2, rv x5)]) [1, 2, 0] rfl ?_
      exact uX5_named_78 hq
    · replace hq := hq.2 c10
      refine x_aload_n 0 dX5_named_20 rfl ?_
      refine x_getN (v := rv (fR h4 x5 2050)) gfX5_249 dX5_named_21 g9 rfl ?_
      obtain ⟨g11, hq⟩ := hq
      refine x_getN (v := .int (fI h4 (fR h4 x5 2050) 1536)) gfX5_289 dX5_named_24 g11 rfl ?_
      refine x_iconst (v := 1) dX5_named_27 (by decide) ?_
      refine x_icmp_ne (tgt := 57) dX5_named_28 (by decide) (fun c12 => ?_) (fun c12 => ?_)
      · replace hq := hq.1 c12
        refine x_aload_n 1 dX5_named_57 rfl ?_
        have t13 : tg h4 x0 = 6 := e6.tg g1 (by decide)
        refine x_get (v := rv (fR h4 x0 1281)) fdX5_62 dX5_named_58 t13 rfl ?_
        refine x_iconst (v := 0) dX5_named_61 (by decide) ?_
        refine x_aload_n 0 dX5_named_62 rfl ?_
        refine x_getN (v := .int (fI h4 x5 2051)) gfX5_112 dX5_named_63 g9 rfl ?_
        refine x_iconst (v := 0) dX5_named_66 (by decide) ?_
        refine x_iconst (v := 0) dX5_named_67 (by decide) ?_
        refine x_iconst (v := 0) dX5_named_68 (by decide) ?_
        obtain ⟨g14, hq⟩ := hq
        obtain ⟨g15, g16, hq⟩ := hq
        refine x_callV (Yc := YX2_put) (as := [.int 0, .int (fI h4 x5 2051), .int 0, .int 0, .int 0]) (st := []) q2494 mvX2_put g14 rfl dX5_named_69 (xle (xal1 (rv_cat _) (xal1 rfl (xal1 rfl (xal1 rfl (xal1 rfl (xal1 rfl xal0)))))) (by decide)) (xfr g15) (xlo xsw0 (by decide) g16) (xKi hq (fun x18 h17 hq e19 => ?_) (fun _ _ q _ => q))
        replace hq := hq e19
        refine x_pop dX5_named_72 rfl ?_
        refine xP.pick (lv' := [(2, rv x5)]) [0] rfl ?_
        exact uX5_named_73 hq
      · replace hq := hq.2 c12
        refine x_aload_n 1 dX5_named_31 rfl ?_
        have t20 : tg h4 x0 = 6 := e6.tg g1 (by decide)
        refine x_get (v := rv (fR h4 x0 1281)) fdX5_62 dX5_named_32 t20 rfl ?_
        refine x_iconst (v := 1) dX5_named_35 (by decide) ?_
        refine x_aload_n 1 dX5_named_36 rfl ?_
        refine x_get (v := rv (fR h4 x0 1281)) fdX5_62 dX5_named_37 t20 rfl ?_
        refine x_aload_n 0 dX5_named_40 rfl ?_
        refine x_getN (v := .double (fD h4 x5 2055)) gfX5_250 dX5_named_41 g9 rfl ?_
        obtain ⟨g21, hq⟩ := hq
        obtain ⟨g22, g23, hq⟩ := hq
        refine x_callV (Yc := YX2_real) (as := [.double (fD h4 x5 2055)]) (st := [.int 1, rv (fR h4 x0 1281)]) q2526 mvX2_real g21 rfl dX5_named_44 (xle (xal1 (rv_cat _) (xal2 rfl xal0)) (by decide)) (xfr g22) (xlo (xsw1 rfl (xsw1 (rv_cat _) xsw0)) (by decide) g23) (xKi hq (fun x25 h24 hq e26 => ?_) (fun _ _ q _ => q))
        replace hq := hq e26
        refine x_iconst (v := 0) dX5_named_47 (by decide) ?_
        refine x_iconst (v := 0) dX5_named_48 (by decide) ?_
        refine x_iconst (v := 0) dX5_named_49 (by decide) ?_
        have t27 : tg h24 (fR h4 x0 1281) = 3 := e26.tg g21 (by decide)
        obtain ⟨g28, g29, hq⟩ := hq
        refine x_callV (Yc := YX2_put) (as := [.int 1, .int x25, .int 0, .int 0, .int 0]) (st := []) q2494 mvX2_put t27 rfl dX5_named_50 (xle (xal1 (rv_cat _) (xal1 rfl (xal1 rfl (xal1 rfl (xal1 rfl (xal1 rfl xal0)))))) (by decide)) (xfr g28) (xlo xsw0 (by decide) g29) (xKi hq (fun x31 h30 hq e32 => ?_) (fun _ _ q _ => q))
        replace hq := hq e32
        refine x_pop dX5_named_53 rfl ?_
        refine x_goto (tgt := 73) dX5_named_54 (by decide) ?_
        refine xP.pick (lv' := [(2, rv x5)]) [0] rfl ?_
        exact uX5_named_73 hq
theorem rX5_named {G : xG} {fr lo : Nat} {x0 : Nat} {x1 : Nat} {h : xH} {Q : Outcome → xH → Prop} (hq : bX5_named G fr lo x0 x1 h Q) : xR G YX5_named fr lo [rv x0, rv x1] h Q := by
  show xP _ _ _ _ _ (lv_args 0 _) _ _ _
  rw [show lv_args 0 [rv x0, rv x1] = [(0, rv x0), (1, rv x1)] from (xla1 (rv_cat _) (xla1 (rv_cat _) xla0))]
  exact uX5_named hq
set_option maxRecDepth 100000 in
theorem dX5_load_0 : decode cX5_load 0 = .ok (.aload_n 1, 1) := by decide +kernel
set_option maxRecDepth 100000 in
theorem dX5_load_1 : decode cX5_load 1 = .ok (.getfield 289, 3) := by decide +kernel
set_option maxRecDepth 100000 in
theorem dX5_load_4 : decode cX5_load 4 = .ok (.tableswitch 110 1 10 #[56, 110, 110, 110, 110, 107, 107, 73, 90, 107], 56) := by decide +kernel
set_option maxRecDepth 100000 in
theorem dX5_load_60 : decode cX5_load 60 = .ok (.aload_n 0, 1) := by decide +kernel
set_option maxRecDepth 100000 in
theorem dX5_load_61 : decode cX5_load 61 = .ok (.getfield 62, 3) := by decide +kernel
set_option maxRecDepth 100000 in
theorem dX5_load_64 : decode cX5_load 64 = .ok (.bipush 10, 2) := by decide +kernel
set_option maxRecDepth 100000 in
theorem dX5_load_66 : decode cX5_load 66 = .ok (.iconst 0, 1) := by decide +kernel
set_option maxRecDepth 100000 in
theorem dX5_load_67 : decode cX5_load 67 = .ok (.iconst 0, 1) := by decide +kernel
set_option maxRecDepth 100000 in
theorem dX5_load_68 : decode cX5_load 68 = .ok (.iconst 0, 1) := by decide +kernel
set_option maxRecDepth 100000 in
theorem dX5_load_69 : decode cX5_load 69 = .ok (.iload_n 2, 1) := by decide +kernel
set_option maxRecDepth 100000 in
theorem dX5_load_70 : decode cX5_load 70 = .ok (.invokevirtual 506, 3) := by decide +kernel
set_option maxRecDepth 100000 in
theorem dX5_load_73 : decode cX5_load 73 = .ok (.pop, 1) := by decide +kernel
set_option maxRecDepth 100000 in
theorem dX5_load_74 : decode cX5_load 74 = .ok (.goto 54, 3) := by decide +kernel
set_option maxRecDepth 100000 in
theorem dX5_load_77 : decode cX5_load 77 = .ok (.aload_n 0, 1) := by decide +kernel
set_option maxRecDepth 100000 in
theorem dX5_load_78 : decode cX5_load 78 = .ok (.getfield 62, 3) := by decide +kernel
set_option maxRecDepth 100000 in
theorem dX5_load_81 : decode cX5_load 81 = .ok (.bipush 11, 2) := by decide +kernel
set_option maxRecDepth 100000 in
theorem dX5_load_83 : decode cX5_load 83 = .ok (.iconst 0, 1) := by decide +kernel
set_option maxRecDepth 100000 in
theorem dX5_load_84 : decode cX5_load 84 = .ok (.iconst 0, 1) := by decide +kernel
set_option maxRecDepth 100000 in
theorem dX5_load_85 : decode cX5_load 85 = .ok (.iconst 0, 1) := by decide +kernel
set_option maxRecDepth 100000 in
theorem dX5_load_86 : decode cX5_load 86 = .ok (.iload_n 2, 1) := by decide +kernel
set_option maxRecDepth 100000 in
theorem dX5_load_87 : decode cX5_load 87 = .ok (.invokevirtual 506, 3) := by decide +kernel
set_option maxRecDepth 100000 in
theorem dX5_load_90 : decode cX5_load 90 = .ok (.pop, 1) := by decide +kernel
set_option maxRecDepth 100000 in
theorem dX5_load_91 : decode cX5_load 91 = .ok (.goto 37, 3) := by decide +kernel
set_option maxRecDepth 100000 in
theorem dX5_load_94 : decode cX5_load 94 = .ok (.aload_n 0, 1) := by decide +kernel
set_option maxRecDepth 100000 in
theorem dX5_load_95 : decode cX5_load 95 = .ok (.getfield 62, 3) := by decide +kernel
set_option maxRecDepth 100000 in
theorem dX5_load_98 : decode cX5_load 98 = .ok (.bipush 17, 2) := by decide +kernel
set_option maxRecDepth 100000 in
theorem dX5_load_100 : decode cX5_load 100 = .ok (.iconst 0, 1) := by decide +kernel
set_option maxRecDepth 100000 in
theorem dX5_load_101 : decode cX5_load 101 = .ok (.iconst 0, 1) := by decide +kernel
set_option maxRecDepth 100000 in
theorem dX5_load_102 : decode cX5_load 102 = .ok (.iconst 0, 1) := by decide +kernel
set_option maxRecDepth 100000 in
theorem dX5_load_103 : decode cX5_load 103 = .ok (.iload_n 2, 1) := by decide +kernel
set_option maxRecDepth 100000 in
theorem dX5_load_104 : decode cX5_load 104 = .ok (.invokevirtual 506, 3) := by decide +kernel
set_option maxRecDepth 100000 in
theorem dX5_load_107 : decode cX5_load 107 = .ok (.pop, 1) := by decide +kernel
set_option maxRecDepth 100000 in
theorem dX5_load_108 : decode cX5_load 108 = .ok (.goto 20, 3) := by decide +kernel
set_option maxRecDepth 100000 in
theorem dX5_load_111 : decode cX5_load 111 = .ok (.goto 17, 3) := by decide +kernel
set_option maxRecDepth 100000 in
theorem dX5_load_114 : decode cX5_load 114 = .ok (.aload_n 0, 1) := by decide +kernel
set_option maxRecDepth 100000 in
theorem dX5_load_115 : decode cX5_load 115 = .ok (.getfield 62, 3) := by decide +kernel
set_option maxRecDepth 100000 in
theorem dX5_load_118 : decode cX5_load 118 = .ok (.bipush 9, 2) := by decide +kernel
set_option maxRecDepth 100000 in
theorem dX5_load_120 : decode cX5_load 120 = .ok (.iconst 0, 1) := by decide +kernel
set_option maxRecDepth 100000 in
theorem dX5_load_121 : decode cX5_load 121 = .ok (.iconst 0, 1) := by decide +kernel
set_option maxRecDepth 100000 in
theorem dX5_load_122 : decode cX5_load 122 = .ok (.iconst 0, 1) := by decide +kernel
set_option maxRecDepth 100000 in
theorem dX5_load_123 : decode cX5_load 123 = .ok (.iload_n 2, 1) := by decide +kernel
set_option maxRecDepth 100000 in
theorem dX5_load_124 : decode cX5_load 124 = .ok (.invokevirtual 506, 3) := by decide +kernel
set_option maxRecDepth 100000 in
theorem dX5_load_127 : decode cX5_load 127 = .ok (.pop, 1) := by decide +kernel
set_option maxRecDepth 100000 in
theorem dX5_load_128 : decode cX5_load 128 = .ok (.return_, 1) := by decide +kernel
set_option maxRecDepth 100000 in
def bX5_load_128 (G : xG) (fr lo : Nat) (h : xH) (Q : Outcome → xH → Prop) : Prop := Q (.returned none) h
set_option maxRecDepth 100000 in
theorem uX5_load_128 {G : xG} {fr lo : Nat} {h : xH} {Q : Outcome → xH → Prop} (hq : bX5_load_128 G fr lo h Q) : xP G YX5_load fr lo 128 [] [] h Q := by
  unfold bX5_load_128 at hq
  exact x_vret rfl dX5_load_128 hq
set_option maxRecDepth 100000 in
def bX5_load (G : xG) (fr lo : Nat) (x0 : Nat) (x1 : Nat) (x2 : Int32) (h : xH) (Q : Outcome → xH → Prop) : Prop := tg h x1 = 7 ∧ (((fI h x1 1536) = 1 → tg h x0 = 6 ∧ tg h (fR h x0 1281) = 3 ∧ 1 ≤ fr ∧ 17 ≤ lo ∧ xRi G YX2_put (fr - 1) (lo - 17) [rv (fR h x0 1281), .int 10, .int 0, .int 0, .int 0, .int x2] h (fun x8 h7 => xext h h7 → bX5_load_128 G fr lo h7 Q) (fun r h2 => Q (.threw r) h2)) ∧ ((fI h x1 1536) = 2 → tg h x0 = 6 ∧ tg h (fR h x0 1281) = 3 ∧ 1 ≤ fr ∧ 17 ≤ lo ∧ xRi G YX2_put (fr - 1) (lo - 17) [rv (fR h x0 1281), .int 9, .int 0, .int 0, .int 0, .int x2] h (fun x16 h15 => xext h h15 → bX5_load_128 G fr lo h15 Q) (fun r h2 => Q (.threw r) h2)) ∧ ((fI h x1 1536) = 3 → tg h x0 = 6 ∧ tg h (fR h x0 1281) = 3 ∧ 1 ≤ fr ∧ 17 ≤ lo ∧ xRi G YX2_put (fr - 1) (lo - 17) [rv (fR h x0 1281), .int 9, .int 0, .int 0, .int 0, .int x2] h (fun x24 h23 => xext h h23 → bX5_load_128 G fr lo h23 Q) (fun r h2 => Q (.threw r) h2)) ∧ ((fI h x1 1536) = 4 → tg h x0 = 6 ∧ tg h (fR h x0 1281) = 3 ∧ 1 ≤ fr ∧ 17 ≤ lo ∧ xRi G YX2_put (fr - 1) (lo - 17) [rv (fR h x0 1281), .int 9, .int 0, .int 0, .int 0, .int x2] h (fun x32 h31 => xext h h31 → bX5_load_128 G fr lo h31 Q) (fun r h2 => Q (.threw r) h2)) ∧ ((fI h x1 1536) = 5 → tg h x0 = 6 ∧ tg h (fR h x0 1281) = 3 ∧ 1 ≤ fr ∧ 17 ≤ lo ∧ xRi G YX2_put (fr - 1) (lo - 17) [rv (fR h x0 1281), .int 9, .int 0, .int 0, .int 0, .int x2] h (fun x40 h39 => xext h h39 → bX5_load_128 G fr lo h39 Q) (fun r h2 => Q (.threw r) h2)) ∧ ((fI h x1 1536) = 6 → bX5_load_128 G fr lo h Q) ∧ ((fI h x1 1536) = 7 → bX5_load_128 G fr lo h Q) ∧ ((fI h x1 1536) = 8 → tg h x0 = 6 ∧ tg h (fR h x0 1281) = 3 ∧ 1 ≤ fr ∧ 17 ≤ lo ∧ xRi G YX2_put (fr - 1) (lo - 17) [rv (fR h x0 1281), .int 11, .int 0, .int 0, .int 0, .int x2] h (fun x50 h49 => xext h h49 → bX5_load_128 G fr lo h49 Q) (fun r h2 => Q (.threw r) h2)) ∧ ((fI h x1 1536) = 9 → tg h x0 = 6 ∧ tg h (fR h x0 1281) = 3 ∧ 1 ≤ fr ∧ 17 ≤ lo ∧ xRi G YX2_put (fr - 1) (lo - 17) [rv (fR h x0 1281), .int 17, .int 0, .int 0, .int 0, .int x2] h (fun x58 h57 => xext h h57 → bX5_load_128 G fr lo h57 Q) (fun r h2 => Q (.threw r) h2)) ∧ ((fI h x1 1536) = 10 → bX5_load_128 G fr lo h Q) ∧ (¬ (fI h x1 1536) = 1 → ¬ (fI h x1 1536) = 2 → ¬ (fI h x1 1536) = 3 → ¬ (fI h x1 1536) = 4 → ¬ (fI h x1 1536) = 5 → ¬ (fI h x1 1536) = 6 → ¬ (fI h x1 1536) = 7 → ¬ (fI h x1 1536) = 8 → ¬ (fI h x1 1536) = 9 → ¬ (fI h x1 1536) = 10 → tg h x0 = 6 ∧ tg h (fR h x0 1281) = 3 ∧ 1 ≤ fr ∧ 17 ≤ lo ∧ xRi G YX2_put (fr - 1) (lo - 17) [rv (fR h x0 1281), .int 9, .int 0, .int 0, .int 0, .int x2] h (fun x66 h65 => xext h h65 → bX5_load_128 G fr lo h65 Q) (fun r h2 => Q (.threw r) h2)))
set_option maxRecDepth 100000 in
theorem uX5_load {G : xG} {fr lo : Nat} {x0 : Nat} {x1 : Nat} {x2 : Int32} {h : xH} {Q : Outcome → xH → Prop} (hq : bX5_load G fr lo x0 x1 x2 h Q) : xP G YX5_load fr lo 0 [(0, rv x0), (1, rv x1), (2, .int x2)] [] h Q := by
  unfold bX5_load at hq
  refine x_aload_n 1 dX5_load_0 rfl ?_
  obtain ⟨g1, hq⟩ := hq
  refine x_getN (v := .int (fI h x1 1536)) gfX5_289 dX5_load_1 g1 rfl ?_
  by_cases c2 : (fI h x1 1536) = 1
  · replace hq := hq.1 c2
    refine x_tin (tgt := 60) (off := 56) 1 c2 dX5_load_4 (by decide) (by decide) (by decide) (by decide) ?_
    refine x_aload_n 0 dX5_load_60 rfl ?_
    obtain ⟨g3, hq⟩ := hq
    refine x_get (v := rv (fR h x0 1281)) fdX5_62 dX5_load_61 g3 rfl ?_
    refine x_bipush (v := 10) dX5_load_64 (by decide) ?_
    refine x_iconst (v := 0) dX5_load_66 (by decide) ?_
    refine x_iconst (v := 0) dX5_load_67 (by decide) ?_
    refine x_iconst (v := 0) dX5_load_68 (by decide) ?_
    refine x_iload_n 2 dX5_load_69 rfl ?_
    obtain ⟨g4, hq⟩ := hq
    obtain ⟨g5, g6, hq⟩ := hq
    refine x_callV (Yc := YX2_put) (as := [.int 10, .int 0, .int 0, .int 0, .int x2]) (st := []) q2494 mvX2_put g4 rfl dX5_load_70 (xle (xal1 (rv_cat _) (xal1 rfl (xal1 rfl (xal1 rfl (xal1 rfl (xal1 rfl xal0)))))) (by decide)) (xfr g5) (xlo xsw0 (by decide) g6) (xKi hq (fun x8 h7 hq e9 => ?_) (fun _ _ q _ => q))
    replace hq := hq e9
    refine x_pop dX5_load_73 rfl ?_
    refine x_goto (tgt := 128) dX5_load_74 (by decide) ?_
    refine xP.pick (lv' := []) [] rfl ?_
    exact uX5_load_128 hq
  replace hq := hq.2
  by_cases c10 : (fI h x1 1536) = 2
  · replace hq := hq.1 c10
    refine x_tin (tgt := 114) (off := 110) 2 c10 dX5_load_4 (by decide) (by decide) (by decide) (by decide) ?_
    refine x_aload_n 0 dX5_load_114 rfl ?_
    obtain ⟨g11, hq⟩ := hq
    refine x_get (v := rv (fR h x0 1281)) fdX5_62 dX5_load_115 g11 rfl ?_
    refine x_bipush (v := 9) dX5_load_118 (by decide) ?_
    refine x_iconst (v := 0) dX5_load_120 (by decide) ?_
    refine x_iconst (v := 0) dX5_load_121 (by decide) ?_
    refine x_iconst (v := 0) dX5_load_122 (by decide) ?_
    refine x_iload_n 2 dX5_load_123 rfl ?_
    obtain ⟨g12, hq⟩ := hq
    obtain ⟨g13, g14, hq⟩ := hq
    refine x_callV (Yc := YX2_put) (as := [.int 9, .int 0, .int 0, .int 0, .int x2]) (st := []) q2494 mvX2_put g12 rfl dX5_load_124 (xle (xal1 (rv_cat _) (xal1 rfl (xal1 rfl (xal1 rfl (xal1 rfl (xal1 rfl xal0)))))) (by decide)) (xfr g13) (xlo xsw0 (by decide) g14) (xKi hq (fun x16 h15 hq e17 => ?_) (fun _ _ q _ => q))
    replace hq := hq e17
    refine x_pop dX5_load_127 rfl ?_
    refine xP.pick (lv' := []) [] rfl ?_
    exact uX5_load_128 hq
  replace hq := hq.2
  by_cases c18 : (fI h x1 1536) = 3
  · replace hq := hq.1 c18
    refine x_tin (tgt := 114) (off := 110) 3 c18 dX5_load_4 (by decide) (by decide) (by decide) (by decide) ?_
    refine x_aload_n 0 dX5_load_114 rfl ?_
    obtain ⟨g19, hq⟩ := hq
    refine x_get (v := rv (fR h x0 1281)) fdX5_62 dX5_load_115 g19 rfl ?_
    refine x_bipush (v := 9) dX5_load_118 (by decide) ?_
    refine x_iconst (v := 0) dX5_load_120 (by decide) ?_
    refine x_iconst (v := 0) dX5_load_121 (by decide) ?_
    refine x_iconst (v := 0) dX5_load_122 (by decide) ?_
    refine x_iload_n 2 dX5_load_123 rfl ?_
    obtain ⟨g20, hq⟩ := hq
    obtain ⟨g21, g22, hq⟩ := hq
    refine x_callV (Yc := YX2_put) (as := [.int 9, .int 0, .int 0, .int 0, .int x2]) (st := []) q2494 mvX2_put g20 rfl dX5_load_124 (xle (xal1 (rv_cat _) (xal1 rfl (xal1 rfl (xal1 rfl (xal1 rfl (xal1 rfl xal0)))))) (by decide)) (xfr g21) (xlo xsw0 (by decide) g22) (xKi hq (fun x24 h23 hq e25 => ?_) (fun _ _ q _ => q))
    replace hq := hq e25
    refine x_pop dX5_load_127 rfl ?_
    refine xP.pick (lv' := []) [] rfl ?_
    exact uX5_load_128 hq
  replace hq := hq.2
  by_cases c26 : (fI h x1 1536) = 4
  · replace hq := hq.1 c26
    refine x_tin (tgt := 114) (off := 110) 4 c26 dX5_load_4 (by decide) (by decide) (by decide) (by decide) ?_
    refine x_aload_n 0 dX5_load_114 rfl ?_
    obtain ⟨g27, hq⟩ := hq
    refine x_get (v := rv (fR h x0 1281)) fdX5_62 dX5_load_115 g27 rfl ?_
    refine x_bipush (v := 9) dX5_load_118 (by decide) ?_
    refine x_iconst (v := 0) dX5_load_120 (by decide) ?_
    refine x_iconst (v := 0) dX5_load_121 (by decide) ?_
    refine x_iconst (v := 0) dX5_load_122 (by decide) ?_
    refine x_iload_n 2 dX5_load_123 rfl ?_
    obtain ⟨g28, hq⟩ := hq
    obtain ⟨g29, g30, hq⟩ := hq
    refine x_callV (Yc := YX2_put) (as := [.int 9, .int 0, .int 0, .int 0, .int x2]) (st := []) q2494 mvX2_put g28 rfl dX5_load_124 (xle (xal1 (rv_cat _) (xal1 rfl (xal1 rfl (xal1 rfl (xal1 rfl (xal1 rfl xal0)))))) (by decide)) (xfr g29) (xlo xsw0 (by decide) g30) (xKi hq (fun x32 h31 hq e33 => ?_) (fun _ _ q _ => q))
    replace hq := hq e33
    refine x_pop dX5_load_127 rfl ?_
    refine xP.pick (lv' := []) [] rfl ?_
    exact uX5_load_128 hq
  replace hq := hq.2
  by_cases c34 : (fI h x1 1536) = 5
  · replace hq := hq.1 c34
    refine x_tin (tgt := 114) (off := 110) 5 c34 dX5_load_4 (by decide) (by decide) (by decide) (by decide) ?_
    refine x_aload_n 0 dX5_load_114 rfl ?_
    obtain ⟨g35, hq⟩ := hq
    refine x_get (v := rv (fR h x0 1281)) fdX5_62 dX5_load_115 g35 rfl ?_
    refine x_bipush (v := 9) dX5_load_118 (by decide) ?_
    refine x_iconst (v := 0) dX5_load_120 (by decide) ?_
    refine x_iconst (v := 0) dX5_load_121 (by decide) ?_
    refine x_iconst (v := 0) dX5_load_122 (by decide) ?_
    refine x_iload_n 2 dX5_load_123 rfl ?_
    obtain ⟨g36, hq⟩ := hq
    obtain ⟨g37, g38, hq⟩ := hq
    refine x_callV (Yc := YX2_put) (as := [.int 9, .int 0, .int 0, .int 0, .int x2]) (st := []) q2494 mvX2_put g36 rfl dX5_load_124 (xle (xal1 (rv_cat _) (xal1 rfl (xal1 rfl (xal1 rfl (xal1 rfl (xal1 rfl xal0)))))) (by decide)) (xfr g37) (xlo xsw0 (by decide) g38) (xKi hq (fun x40 h39 hq e41 => ?_) (fun _ _ q _ => q))
    replace hq := hq e41
    refine x_pop dX5_load_127 rfl ?_
    refine xP.pick (lv' := []) [] rfl ?_
    exact uX5_load_128 hq
  replace hq := hq.2
  by_cases c42 : (fI h x1 1536) = 6
  · replace hq := hq.1 c42
    refine x_tin (tgt := 111) (off := 107) 6 c42 dX5_load_4 (by decide) (by decide) (by decide) (by decide) ?_
    refine x_goto (tgt := 128) dX5_load_111 (by decide) ?_
    refine xP.pick (lv' := []) [] rfl ?_
    exact uX5_load_128 hq
  replace hq := hq.2
  by_cases c43 : (fI h x1 1536) = 7
  · replace hq := hq.1 c43
    refine x_tin (tgt := 111) (off := 107) 7 c43 dX5_load_4 (by decide) (by decide) (by decide) (by decide) ?_
    refine x_goto (tgt := 128) dX5_load_111 (by decide) ?_
    refine xP.pick (lv' := []) [] rfl ?_
    exact uX5_load_128 hq
  replace hq := hq.2
  by_cases c44 : (fI h x1 1536) = 8
  · replace hq := hq.1 c44
    refine x_tin (tgt := 77) (off := 73) 8 c44 dX5_load_4 (by decide) (by decide) (by decide) (by decide) ?_
    refine x_aload_n 0 dX5_load_77 rfl ?_
    obtain ⟨g45, hq⟩ := hq
    refine x_get (v := rv (fR h x0 1281)) fdX5_62 dX5_load_78 g45 rfl ?_
    refine x_bipush (v := 11) dX5_load_81 (by decide) ?_
    refine x_iconst (v := 0) dX5_load_83 (by decide) ?_
    refine x_iconst (v := 0) dX5_load_84 (by decide) ?_
    refine x_iconst (v := 0) dX5_load_85 (by decide) ?_
    refine x_iload_n 2 dX5_load_86 rfl ?_
    obtain ⟨g46, hq⟩ := hq
    obtain ⟨g47, g48, hq⟩ := hq
    refine x_callV (Yc := YX2_put) (as := [.int 11, .int 0, .int 0, .int 0, .int x2]) (st := []) q2494 mvX2_put g46 rfl dX5_load_87 (xle (xal1 (rv_cat _) (xal1 rfl (xal1 rfl (xal1 rfl (xal1 rfl (xal1 rfl xal0)))))) (by decide)) (xfr g47) (xlo xsw0 (by decide) g48) (xKi hq (fun x50 h49 hq e51 => ?_) (fun _ _ q _ => q))
    replace hq := hq e51
    refine x_pop dX5_load_90 rfl ?_
    refine x_goto (tgt := 128) dX5_load_91 (by decide) ?_
    refine xP.pick (lv' := []) [] rfl ?_
    exact uX5_load_128 hq
  replace hq := hq.2
  by_cases c52 : (fI h x1 1536) = 9
  · replace hq := hq.1 c52
    refine x_tin (tgt := 94) (off := 90) 9 c52 dX5_load_4 (by decide) (by decide) (by decide) (by decide) ?_
    refine x_aload_n 0 dX5_load_94 rfl ?_
    obtain ⟨g53, hq⟩ := hq
    refine x_get (v := rv (fR h x0 1281)) fdX5_62 dX5_load_95 g53 rfl ?_
    refine x_bipush (v := 17) dX5_load_98 (by decide) ?_
    refine x_iconst (v := 0) dX5_load_100 (by decide) ?_
    refine x_iconst (v := 0) dX5_load_101 (by decide) ?_
    refine x_iconst (v := 0) dX5_load_102 (by decide) ?_
    refine x_iload_n 2 dX5_load_103 rfl ?_
    obtain ⟨g54, hq⟩ := hq
    obtain ⟨g55, g56, hq⟩ := hq
    refine x_callV (Yc := YX2_put) (as := [.int 17, .int 0, .int 0, .int 0, .int x2]) (st := []) q2494 mvX2_put g54 rfl dX5_load_104 (xle (xal1 (rv_cat _) (xal1 rfl (xal1 rfl (xal1 rfl (xal1 rfl (xal1 rfl xal0)))))) (by decide)) (xfr g55) (xlo xsw0 (by decide) g56) (xKi hq (fun x58 h57 hq e59 => ?_) (fun _ _ q _ => q))
    replace hq := hq e59
    refine x_pop dX5_load_107 rfl ?_
    refine x_goto (tgt := 128) dX5_load_108 (by decide) ?_
    refine xP.pick (lv' := []) [] rfl ?_
    exact uX5_load_128 hq
  replace hq := hq.2
  by_cases c60 : (fI h x1 1536) = 10
  · replace hq := hq.1 c60
    refine x_tin (tgt := 111) (off := 107) 10 c60 dX5_load_4 (by decide) (by decide) (by decide) (by decide) ?_
    refine x_goto (tgt := 128) dX5_load_111 (by decide) ?_
    refine xP.pick (lv' := []) [] rfl ?_
    exact uX5_load_128 hq
  replace hq := hq.2
  replace hq := hq c2 c10 c18 c26 c34 c42 c43 c44 c52 c60
  have nc2 := lv_neT c2 (show (1 : Int32).toInt = 1 from by decide)
  have nc10 := lv_neT c10 (show (2 : Int32).toInt = 2 from by decide)
  have nc18 := lv_neT c18 (show (3 : Int32).toInt = 3 from by decide)
  have nc26 := lv_neT c26 (show (4 : Int32).toInt = 4 from by decide)
  have nc34 := lv_neT c34 (show (5 : Int32).toInt = 5 from by decide)
  have nc42 := lv_neT c42 (show (6 : Int32).toInt = 6 from by decide)
  have nc43 := lv_neT c43 (show (7 : Int32).toInt = 7 from by decide)
  have nc44 := lv_neT c44 (show (8 : Int32).toInt = 8 from by decide)
  have nc52 := lv_neT c52 (show (9 : Int32).toInt = 9 from by decide)
  have nc60 := lv_neT c60 (show (10 : Int32).toInt = 10 from by decide)
  refine x_tout (tgt := 114) dX5_load_4 (by omega) (by decide) ?_
  refine x_aload_n 0 dX5_load_114 rfl ?_
  obtain ⟨g61, hq⟩ := hq
  refine x_get (v := rv (fR h x0 1281)) fdX5_62 dX5_load_115 g61 rfl ?_
  refine x_bipush (v := 9) dX5_load_118 (by decide) ?_
  refine x_iconst (v := 0) dX5_load_120 (by decide) ?_
  refine x_iconst (v := 0) dX5_load_121 (by decide) ?_
  refine x_iconst (v := 0) dX5_load_122 (by decide) ?_
  refine x_iload_n 2 dX5_load_123 rfl ?_
  obtain ⟨g62, hq⟩ := hq
  obtain ⟨g63, g64, hq⟩ := hq
  refine x_callV (Yc := YX2_put) (as := [.int 9, .int 0, .int 0, .int 0, .int x2]) (st := []) q2494 mvX2_put g62 rfl dX5_load_124 (xle (xal1 (rv_cat _) (xal1 rfl (xal1 rfl (xal1 rfl (xal1 rfl (xal1 rfl xal0)))))) (by decide)) (xfr g63) (xlo xsw0 (by decide) g64) (xKi hq (fun x66 h65 hq e67 => ?_) (fun _ _ q _ => q))
  replace hq := hq e67
  refine x_pop dX5_load_127 rfl ?_
  refine xP.pick (lv' := []) [] rfl ?_
  exact uX5_load_128 hq
theorem rX5_load {G : xG} {fr lo : Nat} {x0 : Nat} {x1 : Nat} {x2 : Int32} {h : xH} {Q : Outcome → xH → Prop} (hq : bX5_load G fr lo x0 x1 x2 h Q) : xR G YX5_load fr lo [rv x0, rv x1, .int x2] h Q := by
  show xP _ _ _ _ _ (lv_args 0 _) _ _ _
  rw [show lv_args 0 [rv x0, rv x1, .int x2] = [(0, rv x0), (1, rv x1), (2, .int x2)] from (xla1 (rv_cat _) (xla1 (rv_cat _) (xla1 rfl xla0)))]
  exact uX5_load hq
set_option maxRecDepth 100000 in
theorem dX5_signed_0 : decode cX5_signed 0 = .ok (.aload_n 0, 1) := by decide +kernel
set_option maxRecDepth 100000 in
theorem dX5_signed_1 : decode cX5_signed 1 = .ok (.aload_n 1, 1) := by decide +kernel
set_option maxRecDepth 100000 in
theorem dX5_signed_2 : decode cX5_signed 2 = .ok (.getfield 251, 3) := by decide +kernel
set_option maxRecDepth 100000 in
theorem dX5_signed_5 : decode cX5_signed 5 = .ok (.invokevirtual 654, 3) := by decide +kernel
set_option maxRecDepth 100000 in
theorem dX5_signed_8 : decode cX5_signed 8 = .ok (.astore_n 2, 1) := by decide +kernel
set_option maxRecDepth 100000 in
theorem dX5_signed_9 : decode cX5_signed 9 = .ok (.aload_n 2, 1) := by decide +kernel
set_option maxRecDepth 100000 in
theorem dX5_signed_10 : decode cX5_signed 10 = .ok (.invokevirtual 255, 3) := by decide +kernel
set_option maxRecDepth 100000 in
theorem dX5_signed_13 : decode cX5_signed 13 = .ok (.ifCond .ne 14, 3) := by decide +kernel
set_option maxRecDepth 100000 in
theorem dX5_signed_16 : decode cX5_signed 16 = .ok (.aload_n 0, 1) := by decide +kernel
set_option maxRecDepth 100000 in
theorem dX5_signed_17 : decode cX5_signed 17 = .ok (.bipush 7, 2) := by decide +kernel
set_option maxRecDepth 100000 in
theorem dX5_signed_19 : decode cX5_signed 19 = .ok (.aload_n 1, 1) := by decide +kernel
set_option maxRecDepth 100000 in
theorem dX5_signed_20 : decode cX5_signed 20 = .ok (.invokevirtual 192, 3) := by decide +kernel
set_option maxRecDepth 100000 in
theorem dX5_signed_23 : decode cX5_signed 23 = .ok (.invokevirtual 163, 3) := by decide +kernel
set_option maxRecDepth 100000 in
theorem dX5_signed_26 : decode cX5_signed 26 = .ok (.athrow, 1) := by decide +kernel
set_option maxRecDepth 100000 in
theorem dX5_signed_27 : decode cX5_signed 27 = .ok (.aload_n 1, 1) := by decide +kernel
set_option maxRecDepth 100000 in
theorem dX5_signed_28 : decode cX5_signed 28 = .ok (.invokevirtual 173, 3) := by decide +kernel
set_option maxRecDepth 100000 in
theorem dX5_signed_31 : decode cX5_signed 31 = .ok (.ldc_w 259, 3) := by decide +kernel
set_option maxRecDepth 100000 in
theorem dX5_signed_34 : decode cX5_signed 34 = .ok (.invokevirtual 261, 3) := by decide +kernel
set_option maxRecDepth 100000 in
theorem dX5_signed_37 : decode cX5_signed 37 = .ok (.ifCond .eq 33, 3) := by decide +kernel
set_option maxRecDepth 100000 in
theorem dX5_signed_40 : decode cX5_signed 40 = .ok (.aload_n 0, 1) := by decide +kernel
set_option maxRecDepth 100000 in
theorem dX5_signed_41 : decode cX5_signed 41 = .ok (.getfield 62, 3) := by decide +kernel
set_option maxRecDepth 100000 in
theorem dX5_signed_44 : decode cX5_signed 44 = .ok (.aload_n 2, 1) := by decide +kernel
set_option maxRecDepth 100000 in
theorem dX5_signed_45 : decode cX5_signed 45 = .ok (.aload_n 0, 1) := by decide +kernel
set_option maxRecDepth 100000 in
theorem dX5_signed_46 : decode cX5_signed 46 = .ok (.getfield 20, 3) := by decide +kernel
set_option maxRecDepth 100000 in
theorem dX5_signed_49 : decode cX5_signed 49 = .ok (.if_acmp .ne 8, 3) := by decide +kernel
set_option maxRecDepth 100000 in
theorem dX5_signed_52 : decode cX5_signed 52 = .ok (.bipush 25, 2) := by decide +kernel
set_option maxRecDepth 100000 in
theorem dX5_signed_54 : decode cX5_signed 54 = .ok (.goto 5, 3) := by decide +kernel
set_option maxRecDepth 100000 in
theorem dX5_signed_57 : decode cX5_signed 57 = .ok (.bipush 30, 2) := by decide +kernel
set_option maxRecDepth 100000 in
theorem dX5_signed_59 : decode cX5_signed 59 = .ok (.iconst 0, 1) := by decide +kernel
set_option maxRecDepth 100000 in
theorem dX5_signed_60 : decode cX5_signed 60 = .ok (.iconst 0, 1) := by decide +kernel
set_option maxRecDepth 100000 in
theorem dX5_signed_61 : decode cX5_signed 61 = .ok (.iconst 0, 1) := by decide +kernel
set_option maxRecDepth 100000 in
theorem dX5_signed_62 : decode cX5_signed 62 = .ok (.aload_n 1, 1) := by decide +kernel
set_option maxRecDepth 100000 in
theorem dX5_signed_63 : decode cX5_signed 63 = .ok (.invokevirtual 192, 3) := by decide +kernel
set_option maxRecDepth 100000 in
theorem dX5_signed_66 : decode cX5_signed 66 = .ok (.invokevirtual 506, 3) := by decide +kernel
set_option maxRecDepth 100000 in
theorem dX5_signed_69 : decode cX5_signed 69 = .ok (.pop, 1) := by decide +kernel
set_option maxRecDepth 100000 in
theorem dX5_signed_70 : decode cX5_signed 70 = .ok (.aload_n 2, 1) := by decide +kernel
set_option maxRecDepth 100000 in
theorem dX5_signed_71 : decode cX5_signed 71 = .ok (.areturn, 1) := by decide +kernel
set_option maxRecDepth 100000 in
def bX5_signed_70 (G : xG) (fr lo : Nat) (x2 : Nat) (h : xH) (Q : Outcome → xH → Prop) : Prop := Q (.returned (some (rv x2))) h
set_option maxRecDepth 100000 in
theorem uX5_signed_70 {G : xG} {fr lo : Nat} {x2 : Nat} {h : xH} {Q : Outcome → xH → Prop} (hq : bX5_signed_70 G fr lo x2 h Q) : xP G YX5_signed fr lo 70 [(2, rv x2)] [] h Q := by
  unfold bX5_signed_70 at hq
  refine x_aload_n 0 dX5_signed_70 rfl ?_
  exact x_aret rfl xty_O dX5_signed_71 hq
set_option maxRecDepth 100000 in
def bX5_signed_59 (G : xG) (fr lo : Nat) (x1 : Nat) (x2 : Nat) (s0 : Int32) (s1 : Nat) (h : xH) (Q : Outcome → xH → Prop) : Prop := tg h x1 = 16 ∧ 1 ≤ fr ∧ 17 ≤ lo ∧ xRi G YX15_place (fr - 1) (lo - 17) [rv x1] h (fun x5 h4 => xext h h4 → tg h4 s1 = 3 ∧ 1 ≤ fr ∧ 17 ≤ lo ∧ xRi G YX2_put (fr - 1) (lo - 17) [rv s1, .int s0, .int 0, .int 0, .int 0, .int x5] h4 (fun x11 h10 => xext h4 h10 → bX5_signed_70 G fr lo x2 h10 Q) (fun r h2 => Q (.threw r) h2)) (fun r h2 => Q (.threw r) h2)
set_option maxRecDepth 100000 in
theorem uX5_signed_59 {G : xG} {fr lo : Nat} {x1 : Nat} {x2 : Nat} {s0 : Int32} {s1 : Nat} {h : xH} {Q : Outcome → xH → Prop} (hq : bX5_signed_59 G fr lo x1 x2 s0 s1 h Q) : xP G YX5_signed fr lo 59 [(1, rv x1), (2, rv x2)] [.int s0, rv s1] h Q := by
  unfold bX5_signed_59 at hq
  refine x_iconst (v := 0) dX5_signed_59 (by decide) ?_
  refine x_iconst (v := 0) dX5_signed_60 (by decide) ?_
  refine x_iconst (v := 0) dX5_signed_61 (by decide) ?_
  refine x_aload_n 0 dX5_signed_62 rfl ?_
  obtain ⟨g1, hq⟩ := hq
  obtain ⟨g2, g3, hq⟩ := hq
  refine x_callV (Yc := YX15_place) (as := []) (st := [.int 0, .int 0, .int 0, .int s0, rv s1]) q2013 mvX15_place g1 rfl dX5_signed_63 (xle (xal1 (rv_cat _) xal0) (by decide)) (xfr g2) (xlo (xsw1 rfl (xsw1 rfl (xsw1 rfl (xsw1 rfl (xsw1 (rv_cat _) xsw0))))) (by decide) g3) (xKi hq (fun x5 h4 hq e6 => ?_) (fun _ _ q _ => q))
  replace hq := hq e6
  obtain ⟨g7, hq⟩ := hq
  obtain ⟨g8, g9, hq⟩ := hq
  refine x_callV (Yc := YX2_put) (as := [.int s0, .int 0, .int 0, .int 0, .int x5]) (st := []) q2494 mvX2_put g7 rfl dX5_signed_66 (xle (xal1 (rv_cat _) (xal1 rfl (xal1 rfl (xal1 rfl (xal1 rfl (xal1 rfl xal0)))))) (by decide)) (xfr g8) (xlo xsw0 (by decide) g9) (xKi hq (fun x11 h10 hq e12 => ?_) (fun _ _ q _ => q))
  replace hq := hq e12
  refine x_pop dX5_signed_69 rfl ?_
  refine xP.pick (lv' := [(2, rv x2)]) [1] rfl ?_
  exact uX5_signed_70 hq
set_option maxRecDepth 100000 in
def bX5_signed (G : xG) (fr lo : Nat) (x0 : Nat) (x1 : Nat) (h : xH) (Q : Outcome → xH → Prop) : Prop := tg h x1 = 16 ∧ tg h x0 = 6 ∧ 1 ≤ fr ∧ 13 ≤ lo ∧ xRr G YX5_expression (fr - 1) (lo - 13) [rv x0, rv (fR h x1 3842)] h (fun x6 h5 => xext h h5 → tg h5 x6 = 7 ∧ 1 ≤ fr ∧ 12 ≤ lo ∧ xRi G YX6_isNumber (fr - 1) (lo - 12) [rv x6] h5 (fun x12 h11 => xext h5 h11 → ((¬ x12 = 0 → 1 ≤ fr ∧ 12 ≤ lo ∧ xRr G YX15_text (fr - 1) (lo - 12) [rv x1] h11 (fun x20 h19 => xext h11 h19 → tg h19 x20 = 31 ∧ 1 ≤ fr ∧ 14 ≤ lo ∧ xRi G YJ5_equals (fr - 1) (lo - 14) [rv x20, rv (tx G 54)] h19 (fun x26 h25 => xext h19 h25 → ((x26 = 0 → bX5_signed_70 G fr lo x6 h25 Q) ∧ (¬ x26 = 0 → ((¬ x6 = (fR h25 x0 1282) → bX5_signed_59 G fr lo x1 x6 30 (fR h25 x0 1281) h25 Q) ∧ (x6 = (fR h25 x0 1282) → bX5_signed_59 G fr lo x1 x6 25 (fR h25 x0 1281) h25 Q))))) (fun r h2 => Q (.threw r) h2)) (fun r h2 => Q (.threw r) h2)) ∧ (x12 = 0 → 1 ≤ fr ∧ 14 ≤ lo ∧ xRi G YX15_place (fr - 1) (lo - 14) [rv x1] h11 (fun x39 h38 => xext h11 h38 → 1 ≤ fr ∧ 14 ≤ lo ∧ xRr G YX5_fault (fr - 1) (lo - 14) [rv x0, .int 7, .int x39] h38 (fun x47 h46 => xext h38 h46 → (∃ r49, x47 = r49 + 1 ∧ Q (.threw r49) h46)) (fun r h2 => Q (.threw r) h2)) (fun r h2 => Q (.threw r) h2)))) (fun r h2 => Q (.threw r) h2)) (fun r h2 => Q (.threw r) h2)
set_option maxRecDepth 100000 in
theorem uX5_signed {G : xG} {fr lo : Nat} {x0 : Nat} {x1 : Nat} {h : xH} {Q : Outcome → xH → Prop} (hq : bX5_signed G fr lo x0 x1 h Q) : xP G YX5_signed fr lo 0 [(0, rv x0), (1, rv x1)] [] h Q := by
  unfold bX5_signed at hq
  refine x_aload_n 0 dX5_signed_0 rfl ?_
  refine x_aload_n 1 dX5_signed_1 rfl ?_
  obtain ⟨g1, hq⟩ := hq
  refine x_getN (v := rv (fR h x1 3842)) gfX5_251 dX5_signed_2 g1 rfl ?_
  obtain ⟨g2, hq⟩ := hq
  obtain ⟨g3, g4, hq⟩ := hq
  refine x_callV (Yc := YX5_expression) (as := [rv (fR h x1 3842)]) (st := []) q2522 mvX5_expression g2 rfl dX5_signed_5 (xle (xal1 (rv_cat _) (xal1 (rv_cat _) xal0)) (by decide)) (xfr g3) (xlo xsw0 (by decide) g4) (xKr hq (fun x6 h5 hq e7 => ?_) (fun _ _ q _ => q))
  replace hq := hq e7
  refine x_astore_n (lv' := [(2, rv x6), (0, rv x0), (1, rv x1)]) dX5_signed_8 (by decide) (by first | rfl | (simp [rv_cat, Value.category]; done) | (simp [rv_cat, Value.category]; decide)) ?_
  refine x_aload_n 0 dX5_signed_9 rfl ?_
  obtain ⟨g8, hq⟩ := hq
  obtain ⟨g9, g10, hq⟩ := hq
  refine x_callV (Yc := YX6_isNumber) (as := []) (st := []) q2258 mvX6_isNumber g8 rfl dX5_signed_10 (xle (xal1 (rv_cat _) xal0) (by decide)) (xfr g9) (xlo xsw0 (by decide) g10) (xKi hq (fun x12 h11 hq e13 => ?_) (fun _ _ q _ => q))
  replace hq := hq e13
  refine x_if_ne (tgt := 27) dX5_signed_13 (by decide) (fun c14 => ?_) (fun c14 => ?_)
  · replace hq := hq.1 c14
    refine x_aload_n 2 dX5_signed_27 rfl ?_
    have t15 : tg h5 x1 = 16 := e7.tg g1 (by decide)
    have t16 : tg h11 x1 = 16 := e13.tg t15 (by decide)
    obtain ⟨g17, g18, hq⟩ := hq
    refine x_callV (Yc := YX15_text) (as := []) (st := []) q2009 mvX15_text t16 rfl dX5_signed_28 (xle (xal1 (rv_cat _) xal0) (by decide)) (xfr g17) (xlo xsw0 (by decide) g18) (xKr hq (fun x20 h19 hq e21 => ?_) (fun _ _ q _ => q))
    replace hq := hq e21
    refine x_ldcwS (n := 54) 126 srX5_259 dX5_signed_31 ?_
    obtain ⟨g22, hq⟩ := hq
    obtain ⟨g23, g24, hq⟩ := hq
    refine x_callV (Yc := YJ5_equals) (as := [rv (tx G 54)]) (st := []) q2086 mvJ5_equals g22 rfl dX5_signed_34 (xle (xal1 (rv_cat _) (xal1 (rv_cat _) xal0)) (by decide)) (xfr g23) (xlo xsw0 (by decide) g24) (xKi hq (fun x26 h25 hq e27 => ?_) (fun _ _ q _ => q))
    replace hq := hq e27
    refine x_if_eq (tgt := 70) dX5_signed_37 (by decide) (fun c28 => ?_) (fun c28 => ?_)
    · replace hq := hq.1 c28
      refine xP.pick (lv' := [(2, rv x6)]) [0] rfl ?_
      exact uX5_signed_70 hq
    · replace hq := hq.2 c28
      refine x_aload_n 1 dX5_signed_40 rfl ?_
      have t29 : tg h5 x0 = 6 := e7.tg g2 (by decide)
      have t30 : tg h11 x0 = 6 := e13.tg t29 (by decide)
      have t31 : tg h19 x0 = 6 := e21.tg t30 (by decide)
      have t32 : tg h25 x0 = 6 := e27.tg t31 (by decide)
      refine x_get (v := rv (fR h25 x0 1281)) fdX5_62 dX5_signed_41 t32 rfl ?_
      refine x_aload_n 0 dX5_signed_44 rfl ?_
      refine x_aload_n 1 dX5_signed_45 rfl ?_
      refine x_get (v := rv (fR h25 x0 1282)) fdX5_20 dX5_signed_46 t32 rfl ?_
      refine x_acmp_ne (tgt := 57) dX5_signed_49 (by decide) (fun c33 => ?_) (fun c33 => ?_)
      · replace hq := hq.1 c33
        refine x_bipush (v := 30) dX5_signed_57 (by decide) ?_
        refine xP.pick (lv' := [(1, rv x1), (2, rv x6)]) [2, 0] rfl ?_
        exact uX5_signed_59 hq
      · replace hq := hq.2 c33
        refine x_bipush (v := 25) dX5_signed_52 (by decide) ?_
        refine x_goto (tgt := 59) dX5_signed_54 (by decide) ?_
        refine xP.pick (lv' := [(1, rv x1), (2, rv x6)]) [2, 0] rfl ?_
        exact uX5_signed_59 hq
  · replace hq := hq.2 c14
    refine x_aload_n 1 dX5_signed_16 rfl ?_
    refine x_bipush (v := 7) dX5_signed_17 (by decide) ?_
    refine x_aload_n 2 dX5_signed_19 rfl ?_
    have t34 : tg h5 x1 = 16 := e7.tg g1 (by decide)
    have t35 : tg h11 x1 = 16 := e13.tg t34 (by decide)
    obtain ⟨g36, g37, hq⟩ := hq
    refine x_callV (Yc := YX15_place) (as := []) (st := [.int 7, rv x0]) q2013 mvX15_place t35 rfl dX5_signed_20 (xle (xal1 (rv_cat _) xal0) (by decide)) (xfr g36) (xlo (xsw1 rfl (xsw1 (rv_cat _) xsw0)) (by decide) g37) (xKi hq (fun x39 h38 hq e40 => ?_) (fun _ _ q _ => q))
    replace hq := hq e40
    have t41 : tg h5 x0 = 6 := e7.tg g2 (by decide)
    have t42 : tg h11 x0 = 6 := e13.tg t41 (by decide)
    have t43 : tg h38 x0 = 6 := e40.tg t42 (by decide)
    obtain ⟨g44, g45, hq⟩ := hq
    refine x_callV (Yc := YX5_fault) (as := [.int 7, .int x39]) (st := []) q2087 mvX5_fault t43 rfl dX5_signed_23 (xle (xal1 (rv_cat _) (xal1 rfl (xal1 rfl xal0))) (by decide)) (xfr g44) (xlo xsw0 (by decide) g45) (xKr hq (fun x47 h46 hq e48 => ?_) (fun _ _ q _ => q))
    replace hq := hq e48
    obtain ⟨r49, g50, hq⟩ := hq
    rw [g50]
    exact x_athrow dX5_signed_26 hq
theorem rX5_signed {G : xG} {fr lo : Nat} {x0 : Nat} {x1 : Nat} {h : xH} {Q : Outcome → xH → Prop} (hq : bX5_signed G fr lo x0 x1 h Q) : xR G YX5_signed fr lo [rv x0, rv x1] h Q := by
  show xP _ _ _ _ _ (lv_args 0 _) _ _ _
  rw [show lv_args 0 [rv x0, rv x1] = [(0, rv x0), (1, rv x1)] from (xla1 (rv_cat _) (xla1 (rv_cat _) xla0))]
  exact uX5_signed hq
set_option maxRecDepth 100000 in
theorem dX5_sum_0 : decode cX5_sum 0 = .ok (.aload_n 0, 1) := by decide +kernel
set_option maxRecDepth 100000 in
theorem dX5_sum_1 : decode cX5_sum 1 = .ok (.aload_n 1, 1) := by decide +kernel
set_option maxRecDepth 100000 in
theorem dX5_sum_2 : decode cX5_sum 2 = .ok (.getfield 251, 3) := by decide +kernel
set_option maxRecDepth 100000 in
theorem dX5_sum_5 : decode cX5_sum 5 = .ok (.invokevirtual 654, 3) := by decide +kernel
set_option maxRecDepth 100000 in
theorem dX5_sum_8 : decode cX5_sum 8 = .ok (.astore_n 2, 1) := by decide +kernel
set_option maxRecDepth 100000 in
theorem dX5_sum_9 : decode cX5_sum 9 = .ok (.aload_n 1, 1) := by decide +kernel
set_option maxRecDepth 100000 in
theorem dX5_sum_10 : decode cX5_sum 10 = .ok (.getfield 251, 3) := by decide +kernel
set_option maxRecDepth 100000 in
theorem dX5_sum_13 : decode cX5_sum 13 = .ok (.getfield 307, 3) := by decide +kernel
set_option maxRecDepth 100000 in
theorem dX5_sum_16 : decode cX5_sum 16 = .ok (.astore_n 3, 1) := by decide +kernel
set_option maxRecDepth 100000 in
theorem dX5_sum_17 : decode cX5_sum 17 = .ok (.aload_n 3, 1) := by decide +kernel
set_option maxRecDepth 100000 in
theorem dX5_sum_18 : decode cX5_sum 18 = .ok (.ifnull 30, 3) := by decide +kernel
set_option maxRecDepth 100000 in
theorem dX5_sum_21 : decode cX5_sum 21 = .ok (.aload_n 0, 1) := by decide +kernel
set_option maxRecDepth 100000 in
theorem dX5_sum_22 : decode cX5_sum 22 = .ok (.aload_n 3, 1) := by decide +kernel
set_option maxRecDepth 100000 in
theorem dX5_sum_23 : decode cX5_sum 23 = .ok (.getfield 251, 3) := by decide +kernel
set_option maxRecDepth 100000 in
theorem dX5_sum_26 : decode cX5_sum 26 = .ok (.invokevirtual 654, 3) := by decide +kernel
set_option maxRecDepth 100000 in
theorem dX5_sum_29 : decode cX5_sum 29 = .ok (.astore 4, 2) := by decide +kernel
set_option maxRecDepth 100000 in
theorem dX5_sum_31 : decode cX5_sum 31 = .ok (.aload_n 0, 1) := by decide +kernel
set_option maxRecDepth 100000 in
theorem dX5_sum_32 : decode cX5_sum 32 = .ok (.aload_n 3, 1) := by decide +kernel
set_option maxRecDepth 100000 in
theorem dX5_sum_33 : decode cX5_sum 33 = .ok (.aload_n 2, 1) := by decide +kernel
set_option maxRecDepth 100000 in
theorem dX5_sum_34 : decode cX5_sum 34 = .ok (.aload 4, 2) := by decide +kernel
set_option maxRecDepth 100000 in
theorem dX5_sum_36 : decode cX5_sum 36 = .ok (.invokevirtual 833, 3) := by decide +kernel
set_option maxRecDepth 100000 in
theorem dX5_sum_39 : decode cX5_sum 39 = .ok (.astore_n 2, 1) := by decide +kernel
set_option maxRecDepth 100000 in
theorem dX5_sum_40 : decode cX5_sum 40 = .ok (.aload_n 3, 1) := by decide +kernel
set_option maxRecDepth 100000 in
theorem dX5_sum_41 : decode cX5_sum 41 = .ok (.getfield 307, 3) := by decide +kernel
set_option maxRecDepth 100000 in
theorem dX5_sum_44 : decode cX5_sum 44 = .ok (.astore_n 3, 1) := by decide +kernel
set_option maxRecDepth 100000 in
theorem dX5_sum_45 : decode cX5_sum 45 = .ok (.goto (-28), 3) := by decide +kernel
set_option maxRecDepth 100000 in
theorem dX5_sum_48 : decode cX5_sum 48 = .ok (.aload_n 2, 1) := by decide +kernel
set_option maxRecDepth 100000 in
theorem dX5_sum_49 : decode cX5_sum 49 = .ok (.areturn, 1) := by decide +kernel
def lX5_sum_17 (G : xG) (fr lo : Nat) (x0 : Nat) (x2 : Nat) (x3 : Nat) (h : xH) (Q : Outcome → xH → Prop) : Prop := xP G YX5_sum fr lo 17 [(0, rv x0), (2, rv x2), (3, rv x3)] [] h Q
set_option maxRecDepth 100000 in
def bX5_sum_17 (G : xG) (fr lo : Nat) (x0 : Nat) (x2 : Nat) (x3 : Nat) (h : xH) (Q : Outcome → xH → Prop) : Prop := ((x3 = 0 → Q (.returned (some (rv x2))) h) ∧ (¬ x3 = 0 → tg h x3 = 16 ∧ tg h x0 = 6 ∧ 1 ≤ fr ∧ 13 ≤ lo ∧ xRr G YX5_expression (fr - 1) (lo - 13) [rv x0, rv (fR h x3 3842)] h (fun x7 h6 => xext h h6 → 1 ≤ fr ∧ 19 ≤ lo ∧ xRr G YX5_operated (fr - 1) (lo - 19) [rv x0, rv x3, rv x2, rv x7] h6 (fun x13 h12 => xext h6 h12 → lX5_sum_17 G fr lo x0 x13 (fR h12 x3 3844) h12 Q) (fun r h2 => Q (.threw r) h2)) (fun r h2 => Q (.threw r) h2)))
set_option maxRecDepth 100000 in
theorem uX5_sum_17 {G : xG} {fr lo : Nat} {x0 : Nat} {x2 : Nat} {x3 : Nat} {h : xH} {Q : Outcome → xH → Prop} (hq : bX5_sum_17 G fr lo x0 x2 x3 h Q) : xP G YX5_sum fr lo 17 [(0, rv x0), (2, rv x2), (3, rv x3)] [] h Q := by
  unfold bX5_sum_17 at hq
  refine x_aload_n 2 dX5_sum_17 rfl ?_
  refine x_ifnull (tgt := 48) dX5_sum_18 (by decide) (fun c1 => ?_) (fun c1 => ?_)
  · replace hq := hq.1 c1
    refine x_aload_n 1 dX5_sum_48 rfl ?_
    exact x_aret rfl xty_O dX5_sum_49 hq
  · replace hq := hq.2 c1
    refine x_aload_n 0 dX5_sum_21 rfl ?_
    refine x_aload_n 2 dX5_sum_22 rfl ?_
    obtain ⟨g2, hq⟩ := hq
    refine x_getN (v := rv (fR h x3 3842)) gfX5_251 dX5_sum_23 g2 rfl ?_
    obtain ⟨g3, hq⟩ := hq
    obtain ⟨g4, g5, hq⟩ := hq
    refine x_callV (Yc := YX5_expression) (as := [rv (fR h x3 3842)]) (st := []) q2522 mvX5_expression g3 rfl dX5_sum_26 (xle (xal1 (rv_cat _) (xal1 (rv_cat _) xal0)) (by decide)) (xfr g4) (xlo xsw0 (by decide) g5) (xKr hq (fun x7 h6 hq e8 => ?_) (fun _ _ q _ => q))
    replace hq := hq e8
    refine x_astore (lv' := [(4, rv x7), (0, rv x0), (2, rv x2), (3, rv x3)]) dX5_sum_29 (by decide) (by first | rfl | (simp [rv_cat, Value.category]; done) | (simp [rv_cat, Value.category]; decide)) ?_
    refine x_aload_n 1 dX5_sum_31 rfl ?_
    refine x_aload_n 3 dX5_sum_32 rfl ?_
    refine x_aload_n 2 dX5_sum_33 rfl ?_
    refine x_aload 0 dX5_sum_34 rfl ?_
    have t9 : tg h6 x0 = 6 := e8.tg g3 (by decide)
    obtain ⟨g10, g11, hq⟩ := hq
    refine x_callV (Yc := YX5_operated) (as := [rv x3, rv x2, rv x7]) (st := []) q2661 mvX5_operated t9 rfl dX5_sum_36 (xle (xal1 (rv_cat _) (xal1 (rv_cat _) (xal1 (rv_cat _) (xal1 (rv_cat _) xal0)))) (by decide)) (xfr g10) (xlo xsw0 (by decide) g11) (xKr hq (fun x13 h12 hq e14 => ?_) (fun _ _ q _ => q))
    replace hq := hq e14
    refine x_astore_n (lv' := [(2, rv x13), (4, rv x7), (0, rv x0), (3, rv x3)]) dX5_sum_39 (by decide) rfl ?_
    refine x_aload_n 3 dX5_sum_40 rfl ?_
    have t15 : tg h6 x3 = 16 := e8.tg g2 (by decide)
    have t16 : tg h12 x3 = 16 := e14.tg t15 (by decide)
    refine x_getN (v := rv (fR h12 x3 3844)) gfX5_307 dX5_sum_41 t16 rfl ?_
    refine x_astore_n (lv' := [(3, rv (fR h12 x3 3844)), (2, rv x13), (4, rv x7), (0, rv x0)]) dX5_sum_44 (by decide) (by first | rfl | (simp [rv_cat, Value.category]; done) | (simp [rv_cat, Value.category]; decide)) ?_
    refine x_goto (tgt := 17) dX5_sum_45 (by decide) ?_
    refine xP.pick (lv' := [(0, rv x0), (2, rv x13), (3, rv (fR h12 x3 3844))]) [3, 1, 0] rfl ?_
    exact hq
set_option maxRecDepth 100000 in
def bX5_sum (G : xG) (fr lo : Nat) (x0 : Nat) (x1 : Nat) (h : xH) (Q : Outcome → xH → Prop) : Prop := tg h x1 = 16 ∧ tg h x0 = 6 ∧ 1 ≤ fr ∧ 13 ≤ lo ∧ xRr G YX5_expression (fr - 1) (lo - 13) [rv x0, rv (fR h x1 3842)] h (fun x6 h5 => xext h h5 → tg h5 (fR h5 x1 3842) = 16 ∧ lX5_sum_17 G fr lo x0 x6 (fR h5 (fR h5 x1 3842) 3844) h5 Q) (fun r h2 => Q (.threw r) h2)
set_option maxRecDepth 100000 in
theorem uX5_sum {G : xG} {fr lo : Nat} {x0 : Nat} {x1 : Nat} {h : xH} {Q : Outcome → xH → Prop} (hq : bX5_sum G fr lo x0 x1 h Q) : xP G YX5_sum fr lo 0 [(0, rv x0), (1, rv x1)] [] h Q := by
  unfold bX5_sum at hq
  refine x_aload_n 0 dX5_sum_0 rfl ?_
  refine x_aload_n 1 dX5_sum_1 rfl ?_
  obtain ⟨g1, hq⟩ := hq
  refine x_getN (v := rv (fR h x1 3842)) gfX5_251 dX5_sum_2 g1 rfl ?_
  obtain ⟨g2, hq⟩ := hq
  obtain ⟨g3, g4, hq⟩ := hq
  refine x_callV (Yc := YX5_expression) (as := [rv (fR h x1 3842)]) (st := []) q2522 mvX5_expression g2 rfl dX5_sum_5 (xle (xal1 (rv_cat _) (xal1 (rv_cat _) xal0)) (by decide)) (xfr g3) (xlo xsw0 (by decide) g4) (xKr hq (fun x6 h5 hq e7 => ?_) (fun _ _ q _ => q))
  replace hq := hq e7
  refine x_astore_n (lv' := [(2, rv x6), (0, rv x0), (1, rv x1)]) dX5_sum_8 (by decide) (by first | rfl | (simp [rv_cat, Value.category]; done) | (simp [rv_cat, Value.category]; decide)) ?_
  refine x_aload_n 2 dX5_sum_9 rfl ?_
  have t8 : tg h5 x1 = 16 := e7.tg g1 (by decide)
  refine x_getN (v := rv (fR h5 x1 3842)) gfX5_251 dX5_sum_10 t8 rfl ?_
  obtain ⟨g9, hq⟩ := hq
  refine x_getN (v := rv (fR h5 (fR h5 x1 3842) 3844)) gfX5_307 dX5_sum_13 g9 rfl ?_
  refine x_astore_n (lv' := [(3, rv (fR h5 (fR h5 x1 3842) 3844)), (2, rv x6), (0, rv x0), (1, rv x1)]) dX5_sum_16 (by decide) (by first | rfl | (simp [rv_cat, Value.category]; done) | (simp [rv_cat, Value.category]; decide)) ?_
  refine xP.pick (lv' := [(0, rv x0), (2, rv x6), (3, rv (fR h5 (fR h5 x1 3842) 3844))]) [2, 1, 0] rfl ?_
  exact hq
theorem rX5_sum {G : xG} {fr lo : Nat} {x0 : Nat} {x1 : Nat} {h : xH} {Q : Outcome → xH → Prop} (hq : bX5_sum G fr lo x0 x1 h Q) : xR G YX5_sum fr lo [rv x0, rv x1] h Q := by
  show xP _ _ _ _ _ (lv_args 0 _) _ _ _
  rw [show lv_args 0 [rv x0, rv x1] = [(0, rv x0), (1, rv x1)] from (xla1 (rv_cat _) (xla1 (rv_cat _) xla0))]
  exact uX5_sum hq
set_option maxRecDepth 100000 in
theorem dX5_operated_0 : decode cX5_operated 0 = .ok (.aload_n 1, 1) := by decide +kernel
set_option maxRecDepth 100000 in
theorem dX5_operated_1 : decode cX5_operated 1 = .ok (.invokevirtual 173, 3) := by decide +kernel
set_option maxRecDepth 100000 in
theorem dX5_operated_4 : decode cX5_operated 4 = .ok (.astore 4, 2) := by decide +kernel
set_option maxRecDepth 100000 in
theorem dX5_operated_6 : decode cX5_operated 6 = .ok (.aload_n 1, 1) := by decide +kernel
set_option maxRecDepth 100000 in
theorem dX5_operated_7 : decode cX5_operated 7 = .ok (.invokevirtual 192, 3) := by decide +kernel
set_option maxRecDepth 100000 in
theorem dX5_operated_10 : decode cX5_operated 10 = .ok (.istore 5, 2) := by decide +kernel
set_option maxRecDepth 100000 in
theorem dX5_operated_12 : decode cX5_operated 12 = .ok (.aload 4, 2) := by decide +kernel
set_option maxRecDepth 100000 in
theorem dX5_operated_14 : decode cX5_operated 14 = .ok (.ldc_w 837, 3) := by decide +kernel
set_option maxRecDepth 100000 in
theorem dX5_operated_17 : decode cX5_operated 17 = .ok (.invokevirtual 261, 3) := by decide +kernel
set_option maxRecDepth 100000 in
theorem dX5_operated_20 : decode cX5_operated 20 = .ok (.ifCond .ne 14, 3) := by decide +kernel
set_option maxRecDepth 100000 in
theorem dX5_operated_23 : decode cX5_operated 23 = .ok (.aload 4, 2) := by decide +kernel
set_option maxRecDepth 100000 in
theorem dX5_operated_25 : decode cX5_operated 25 = .ok (.ldc_w 839, 3) := by decide +kernel
set_option maxRecDepth 100000 in
theorem dX5_operated_28 : decode cX5_operated 28 = .ok (.invokevirtual 261, 3) := by decide +kernel
set_option maxRecDepth 100000 in
theorem dX5_operated_31 : decode cX5_operated 31 = .ok (.ifCond .eq 63, 3) := by decide +kernel
set_option maxRecDepth 100000 in
theorem dX5_operated_34 : decode cX5_operated 34 = .ok (.aload_n 2, 1) := by decide +kernel
set_option maxRecDepth 100000 in
theorem dX5_operated_35 : decode cX5_operated 35 = .ok (.aload_n 0, 1) := by decide +kernel
set_option maxRecDepth 100000 in
theorem dX5_operated_36 : decode cX5_operated 36 = .ok (.getfield 29, 3) := by decide +kernel
set_option maxRecDepth 100000 in
theorem dX5_operated_39 : decode cX5_operated 39 = .ok (.if_acmp .ne 11, 3) := by decide +kernel
set_option maxRecDepth 100000 in
theorem dX5_operated_42 : decode cX5_operated 42 = .ok (.aload_n 3, 1) := by decide +kernel
set_option maxRecDepth 100000 in
theorem dX5_operated_43 : decode cX5_operated 43 = .ok (.aload_n 0, 1) := by decide +kernel
set_option maxRecDepth 100000 in
theorem dX5_operated_44 : decode cX5_operated 44 = .ok (.getfield 29, 3) := by decide +kernel
set_option maxRecDepth 100000 in
theorem dX5_operated_47 : decode cX5_operated 47 = .ok (.if_acmp .eq 12, 3) := by decide +kernel
set_option maxRecDepth 100000 in
theorem dX5_operated_50 : decode cX5_operated 50 = .ok (.aload_n 0, 1) := by decide +kernel
set_option maxRecDepth 100000 in
theorem dX5_operated_51 : decode cX5_operated 51 = .ok (.bipush 7, 2) := by decide +kernel
set_option maxRecDepth 100000 in
theorem dX5_operated_53 : decode cX5_operated 53 = .ok (.iload 5, 2) := by decide +kernel
set_option maxRecDepth 100000 in
theorem dX5_operated_55 : decode cX5_operated 55 = .ok (.invokevirtual 163, 3) := by decide +kernel
set_option maxRecDepth 100000 in
theorem dX5_operated_58 : decode cX5_operated 58 = .ok (.athrow, 1) := by decide +kernel
set_option maxRecDepth 100000 in
theorem dX5_operated_59 : decode cX5_operated 59 = .ok (.aload_n 0, 1) := by decide +kernel
set_option maxRecDepth 100000 in
theorem dX5_operated_60 : decode cX5_operated 60 = .ok (.getfield 62, 3) := by decide +kernel
set_option maxRecDepth 100000 in
theorem dX5_operated_63 : decode cX5_operated 63 = .ok (.aload 4, 2) := by decide +kernel
set_option maxRecDepth 100000 in
theorem dX5_operated_65 : decode cX5_operated 65 = .ok (.ldc_w 837, 3) := by decide +kernel
set_option maxRecDepth 100000 in
theorem dX5_operated_68 : decode cX5_operated 68 = .ok (.invokevirtual 261, 3) := by decide +kernel
set_option maxRecDepth 100000 in
theorem dX5_operated_71 : decode cX5_operated 71 = .ok (.ifCond .eq 8, 3) := by decide +kernel
set_option maxRecDepth 100000 in
theorem dX5_operated_74 : decode cX5_operated 74 = .ok (.bipush 33, 2) := by decide +kernel
set_option maxRecDepth 100000 in
theorem dX5_operated_76 : decode cX5_operated 76 = .ok (.goto 5, 3) := by decide +kernel
set_option maxRecDepth 100000 in
theorem dX5_operated_79 : decode cX5_operated 79 = .ok (.bipush 34, 2) := by decide +kernel
set_option maxRecDepth 100000 in
theorem dX5_operated_81 : decode cX5_operated 81 = .ok (.iconst 0, 1) := by decide +kernel
set_option maxRecDepth 100000 in
theorem dX5_operated_82 : decode cX5_operated 82 = .ok (.iconst 0, 1) := by decide +kernel
set_option maxRecDepth 100000 in
theorem dX5_operated_83 : decode cX5_operated 83 = .ok (.iconst 0, 1) := by decide +kernel
set_option maxRecDepth 100000 in
theorem dX5_operated_84 : decode cX5_operated 84 = .ok (.iconst 0, 1) := by decide +kernel
set_option maxRecDepth 100000 in
theorem dX5_operated_85 : decode cX5_operated 85 = .ok (.invokevirtual 506, 3) := by decide +kernel
set_option maxRecDepth 100000 in
theorem dX5_operated_88 : decode cX5_operated 88 = .ok (.pop, 1) := by decide +kernel
set_option maxRecDepth 100000 in
theorem dX5_operated_89 : decode cX5_operated 89 = .ok (.aload_n 0, 1) := by decide +kernel
set_option maxRecDepth 100000 in
theorem dX5_operated_90 : decode cX5_operated 90 = .ok (.getfield 29, 3) := by decide +kernel
set_option maxRecDepth 100000 in
theorem dX5_operated_93 : decode cX5_operated 93 = .ok (.areturn, 1) := by decide +kernel
set_option maxRecDepth 100000 in
theorem dX5_operated_94 : decode cX5_operated 94 = .ok (.aload 4, 2) := by decide +kernel
set_option maxRecDepth 100000 in
theorem dX5_operated_96 : decode cX5_operated 96 = .ok (.ldc_w 841, 3) := by decide +kernel
set_option maxRecDepth 100000 in
theorem dX5_operated_99 : decode cX5_operated 99 = .ok (.invokevirtual 261, 3) := by decide +kernel
set_option maxRecDepth 100000 in
theorem dX5_operated_102 : decode cX5_operated 102 = .ok (.ifCond .ne 14, 3) := by decide +kernel
set_option maxRecDepth 100000 in
theorem dX5_operated_105 : decode cX5_operated 105 = .ok (.aload 4, 2) := by decide +kernel
set_option maxRecDepth 100000 in
theorem dX5_operated_107 : decode cX5_operated 107 = .ok (.ldc_w 843, 3) := by decide +kernel
set_option maxRecDepth 100000 in
theorem dX5_operated_110 : decode cX5_operated 110 = .ok (.invokevirtual 261, 3) := by decide +kernel
set_option maxRecDepth 100000 in
theorem dX5_operated_113 : decode cX5_operated 113 = .ok (.ifCond .eq 64, 3) := by decide +kernel
set_option maxRecDepth 100000 in
theorem dX5_operated_116 : decode cX5_operated 116 = .ok (.aload_n 2, 1) := by decide +kernel
set_option maxRecDepth 100000 in
theorem dX5_operated_117 : decode cX5_operated 117 = .ok (.aload_n 0, 1) := by decide +kernel
set_option maxRecDepth 100000 in
theorem dX5_operated_118 : decode cX5_operated 118 = .ok (.getfield 20, 3) := by decide +kernel
set_option maxRecDepth 100000 in
theorem dX5_operated_121 : decode cX5_operated 121 = .ok (.if_acmp .ne 11, 3) := by decide +kernel
set_option maxRecDepth 100000 in
theorem dX5_operated_124 : decode cX5_operated 124 = .ok (.aload_n 3, 1) := by decide +kernel
set_option maxRecDepth 100000 in
theorem dX5_operated_125 : decode cX5_operated 125 = .ok (.aload_n 0, 1) := by decide +kernel
set_option maxRecDepth 100000 in
theorem dX5_operated_126 : decode cX5_operated 126 = .ok (.getfield 20, 3) := by decide +kernel
set_option maxRecDepth 100000 in
theorem dX5_operated_129 : decode cX5_operated 129 = .ok (.if_acmp .eq 12, 3) := by decide +kernel
set_option maxRecDepth 100000 in
theorem dX5_operated_132 : decode cX5_operated 132 = .ok (.aload_n 0, 1) := by decide +kernel
set_option maxRecDepth 100000 in
theorem dX5_operated_133 : decode cX5_operated 133 = .ok (.bipush 7, 2) := by decide +kernel
set_option maxRecDepth 100000 in
theorem dX5_operated_135 : decode cX5_operated 135 = .ok (.iload 5, 2) := by decide +kernel
set_option maxRecDepth 100000 in
theorem dX5_operated_137 : decode cX5_operated 137 = .ok (.invokevirtual 163, 3) := by decide +kernel
set_option maxRecDepth 100000 in
theorem dX5_operated_140 : decode cX5_operated 140 = .ok (.athrow, 1) := by decide +kernel
set_option maxRecDepth 100000 in
theorem dX5_operated_141 : decode cX5_operated 141 = .ok (.aload_n 0, 1) := by decide +kernel
set_option maxRecDepth 100000 in
theorem dX5_operated_142 : decode cX5_operated 142 = .ok (.getfield 62, 3) := by decide +kernel
set_option maxRecDepth 100000 in
theorem dX5_operated_145 : decode cX5_operated 145 = .ok (.aload 4, 2) := by decide +kernel
set_option maxRecDepth 100000 in
theorem dX5_operated_147 : decode cX5_operated 147 = .ok (.ldc_w 841, 3) := by decide +kernel
set_option maxRecDepth 100000 in
theorem dX5_operated_150 : decode cX5_operated 150 = .ok (.invokevirtual 261, 3) := by decide +kernel
set_option maxRecDepth 100000 in
theorem dX5_operated_153 : decode cX5_operated 153 = .ok (.ifCond .eq 8, 3) := by decide +kernel
set_option maxRecDepth 100000 in
theorem dX5_operated_156 : decode cX5_operated 156 = .ok (.bipush 23, 2) := by decide +kernel
set_option maxRecDepth 100000 in
theorem dX5_operated_158 : decode cX5_operated 158 = .ok (.goto 5, 3) := by decide +kernel
set_option maxRecDepth 100000 in
theorem dX5_operated_161 : decode cX5_operated 161 = .ok (.bipush 24, 2) := by decide +kernel
set_option maxRecDepth 100000 in
theorem dX5_operated_163 : decode cX5_operated 163 = .ok (.iconst 0, 1) := by decide +kernel
set_option maxRecDepth 100000 in
theorem dX5_operated_164 : decode cX5_operated 164 = .ok (.iconst 0, 1) := by decide +kernel
set_option maxRecDepth 100000 in
theorem dX5_operated_165 : decode cX5_operated 165 = .ok (.iconst 0, 1) := by decide +kernel
set_option maxRecDepth 100000 in
theorem dX5_operated_166 : decode cX5_operated 166 = .ok (.iload 5, 2) := by decide +kernel
set_option maxRecDepth 100000 in
theorem dX5_operated_168 : decode cX5_operated 168 = .ok (.invokevirtual 506, 3) := by decide +kernel
set_option maxRecDepth 100000 in
theorem dX5_operated_171 : decode cX5_operated 171 = .ok (.pop, 1) := by decide +kernel
set_option maxRecDepth 100000 in
theorem dX5_operated_172 : decode cX5_operated 172 = .ok (.aload_n 0, 1) := by decide +kernel
set_option maxRecDepth 100000 in
theorem dX5_operated_173 : decode cX5_operated 173 = .ok (.getfield 20, 3) := by decide +kernel
set_option maxRecDepth 100000 in
theorem dX5_operated_176 : decode cX5_operated 176 = .ok (.areturn, 1) := by decide +kernel
set_option maxRecDepth 100000 in
theorem dX5_operated_177 : decode cX5_operated 177 = .ok (.aload 4, 2) := by decide +kernel
set_option maxRecDepth 100000 in
theorem dX5_operated_179 : decode cX5_operated 179 = .ok (.ldc_w 845, 3) := by decide +kernel
set_option maxRecDepth 100000 in
theorem dX5_operated_182 : decode cX5_operated 182 = .ok (.invokevirtual 261, 3) := by decide +kernel
set_option maxRecDepth 100000 in
theorem dX5_operated_185 : decode cX5_operated 185 = .ok (.ifCond .eq 47, 3) := by decide +kernel
set_option maxRecDepth 100000 in
theorem dX5_operated_188 : decode cX5_operated 188 = .ok (.aload_n 0, 1) := by decide +kernel
set_option maxRecDepth 100000 in
theorem dX5_operated_189 : decode cX5_operated 189 = .ok (.aload_n 2, 1) := by decide +kernel
set_option maxRecDepth 100000 in
theorem dX5_operated_190 : decode cX5_operated 190 = .ok (.aload_n 3, 1) := by decide +kernel
set_option maxRecDepth 100000 in
theorem dX5_operated_191 : decode cX5_operated 191 = .ok (.invokevirtual 847, 3) := by decide +kernel
set_option maxRecDepth 100000 in
theorem dX5_operated_194 : decode cX5_operated 194 = .ok (.ifCond .ne 12, 3) := by decide +kernel
set_option maxRecDepth 100000 in
theorem dX5_operated_197 : decode cX5_operated 197 = .ok (.aload_n 0, 1) := by decide +kernel
set_option maxRecDepth 100000 in
theorem dX5_operated_198 : decode cX5_operated 198 = .ok (.bipush 7, 2) := by decide +kernel
set_option maxRecDepth 100000 in
theorem dX5_operated_200 : decode cX5_operated 200 = .ok (.iload 5, 2) := by decide +kernel
set_option maxRecDepth 100000 in
theorem dX5_operated_202 : decode cX5_operated 202 = .ok (.invokevirtual 163, 3) := by decide +kernel
set_option maxRecDepth 100000 in
theorem dX5_operated_205 : decode cX5_operated 205 = .ok (.athrow, 1) := by decide +kernel
set_option maxRecDepth 100000 in
theorem dX5_operated_206 : decode cX5_operated 206 = .ok (.aload_n 0, 1) := by decide +kernel
set_option maxRecDepth 100000 in
theorem dX5_operated_207 : decode cX5_operated 207 = .ok (.aload_n 2, 1) := by decide +kernel
set_option maxRecDepth 100000 in
theorem dX5_operated_208 : decode cX5_operated 208 = .ok (.aload_n 3, 1) := by decide +kernel
set_option maxRecDepth 100000 in
theorem dX5_operated_209 : decode cX5_operated 209 = .ok (.invokevirtual 851, 3) := by decide +kernel
set_option maxRecDepth 100000 in
theorem dX5_operated_212 : decode cX5_operated 212 = .ok (.aload_n 0, 1) := by decide +kernel
set_option maxRecDepth 100000 in
theorem dX5_operated_213 : decode cX5_operated 213 = .ok (.getfield 62, 3) := by decide +kernel
set_option maxRecDepth 100000 in
theorem dX5_operated_216 : decode cX5_operated 216 = .ok (.bipush 29, 2) := by decide +kernel
set_option maxRecDepth 100000 in
theorem dX5_operated_218 : decode cX5_operated 218 = .ok (.iconst 0, 1) := by decide +kernel
set_option maxRecDepth 100000 in
theorem dX5_operated_219 : decode cX5_operated 219 = .ok (.iconst 0, 1) := by decide +kernel
set_option maxRecDepth 100000 in
theorem dX5_operated_220 : decode cX5_operated 220 = .ok (.iconst 0, 1) := by decide +kernel
set_option maxRecDepth 100000 in
theorem dX5_operated_221 : decode cX5_operated 221 = .ok (.iload 5, 2) := by decide +kernel
set_option maxRecDepth 100000 in
theorem dX5_operated_223 : decode cX5_operated 223 = .ok (.invokevirtual 506, 3) := by decide +kernel
set_option maxRecDepth 100000 in
theorem dX5_operated_226 : decode cX5_operated 226 = .ok (.pop, 1) := by decide +kernel
set_option maxRecDepth 100000 in
theorem dX5_operated_227 : decode cX5_operated 227 = .ok (.aload_n 0, 1) := by decide +kernel
set_option maxRecDepth 100000 in
theorem dX5_operated_228 : decode cX5_operated 228 = .ok (.getfield 26, 3) := by decide +kernel
set_option maxRecDepth 100000 in
theorem dX5_operated_231 : decode cX5_operated 231 = .ok (.areturn, 1) := by decide +kernel
set_option maxRecDepth 100000 in
theorem dX5_operated_232 : decode cX5_operated 232 = .ok (.aload 4, 2) := by decide +kernel
set_option maxRecDepth 100000 in
theorem dX5_operated_234 : decode cX5_operated 234 = .ok (.ldc_w 855, 3) := by decide +kernel
set_option maxRecDepth 100000 in
theorem dX5_operated_237 : decode cX5_operated 237 = .ok (.invokevirtual 261, 3) := by decide +kernel
set_option maxRecDepth 100000 in
theorem dX5_operated_240 : decode cX5_operated 240 = .ok (.ifCond .eq 7, 3) := by decide +kernel
set_option maxRecDepth 100000 in
theorem dX5_operated_243 : decode cX5_operated 243 = .ok (.iconst 0, 1) := by decide +kernel
set_option maxRecDepth 100000 in
theorem dX5_operated_244 : decode cX5_operated 244 = .ok (.goto 19, 3) := by decide +kernel
set_option maxRecDepth 100000 in
theorem dX5_operated_247 : decode cX5_operated 247 = .ok (.aload 4, 2) := by decide +kernel
set_option maxRecDepth 100000 in
theorem dX5_operated_249 : decode cX5_operated 249 = .ok (.ldc_w 259, 3) := by decide +kernel
set_option maxRecDepth 100000 in
theorem dX5_operated_252 : decode cX5_operated 252 = .ok (.invokevirtual 261, 3) := by decide +kernel
set_option maxRecDepth 100000 in
theorem dX5_operated_255 : decode cX5_operated 255 = .ok (.ifCond .eq 7, 3) := by decide +kernel
set_option maxRecDepth 100000 in
theorem dX5_operated_258 : decode cX5_operated 258 = .ok (.iconst 1, 1) := by decide +kernel
set_option maxRecDepth 100000 in
theorem dX5_operated_259 : decode cX5_operated 259 = .ok (.goto 4, 3) := by decide +kernel
set_option maxRecDepth 100000 in
theorem dX5_operated_262 : decode cX5_operated 262 = .ok (.iconst 2, 1) := by decide +kernel
set_option maxRecDepth 100000 in
theorem dX5_operated_263 : decode cX5_operated 263 = .ok (.istore 6, 2) := by decide +kernel
set_option maxRecDepth 100000 in
theorem dX5_operated_265 : decode cX5_operated 265 = .ok (.aload_n 2, 1) := by decide +kernel
set_option maxRecDepth 100000 in
theorem dX5_operated_266 : decode cX5_operated 266 = .ok (.invokevirtual 857, 3) := by decide +kernel
set_option maxRecDepth 100000 in
theorem dX5_operated_269 : decode cX5_operated 269 = .ok (.ifCond .eq 102, 3) := by decide +kernel
set_option maxRecDepth 100000 in
theorem dX5_operated_272 : decode cX5_operated 272 = .ok (.aload_n 3, 1) := by decide +kernel
set_option maxRecDepth 100000 in
theorem dX5_operated_273 : decode cX5_operated 273 = .ok (.invokevirtual 857, 3) := by decide +kernel
set_option maxRecDepth 100000 in
theorem dX5_operated_276 : decode cX5_operated 276 = .ok (.ifCond .eq 95, 3) := by decide +kernel
set_option maxRecDepth 100000 in
theorem dX5_operated_279 : decode cX5_operated 279 = .ok (.aload_n 2, 1) := by decide +kernel
set_option maxRecDepth 100000 in
theorem dX5_operated_280 : decode cX5_operated 280 = .ok (.aload_n 3, 1) := by decide +kernel
set_option maxRecDepth 100000 in
theorem dX5_operated_281 : decode cX5_operated 281 = .ok (.invokevirtual 860, 3) := by decide +kernel
set_option maxRecDepth 100000 in
theorem dX5_operated_284 : decode cX5_operated 284 = .ok (.ifCond .eq 87, 3) := by decide +kernel
set_option maxRecDepth 100000 in
theorem dX5_operated_287 : decode cX5_operated 287 = .ok (.aload_n 0, 1) := by decide +kernel
set_option maxRecDepth 100000 in
theorem dX5_operated_288 : decode cX5_operated 288 = .ok (.getfield 62, 3) := by decide +kernel
set_option maxRecDepth 100000 in
theorem dX5_operated_291 : decode cX5_operated 291 = .ok (.iload 6, 2) := by decide +kernel
set_option maxRecDepth 100000 in
theorem dX5_operated_293 : decode cX5_operated 293 = .ok (.ifCond .ne 8, 3) := by decide +kernel
set_option maxRecDepth 100000 in
theorem dX5_operated_296 : decode cX5_operated 296 = .ok (.bipush 45, 2) := by decide +kernel
set_option maxRecDepth 100000 in
theorem dX5_operated_298 : decode cX5_operated 298 = .ok (.goto 16, 3) := by decide +kernel
set_option maxRecDepth 100000 in
theorem dX5_operated_301 : decode cX5_operated 301 = .ok (.iload 6, 2) := by decide +kernel
set_option maxRecDepth 100000 in
theorem dX5_operated_303 : decode cX5_operated 303 = .ok (.iconst 1, 1) := by decide +kernel
set_option maxRecDepth 100000 in
theorem dX5_operated_304 : decode cX5_operated 304 = .ok (.if_icmp .ne 8, 3) := by decide +kernel
set_option maxRecDepth 100000 in
theorem dX5_operated_307 : decode cX5_operated 307 = .ok (.bipush 47, 2) := by decide +kernel
set_option maxRecDepth 100000 in
theorem dX5_operated_309 : decode cX5_operated 309 = .ok (.goto 5, 3) := by decide +kernel
set_option maxRecDepth 100000 in
theorem dX5_operated_312 : decode cX5_operated 312 = .ok (.bipush 46, 2) := by decide +kernel
set_option maxRecDepth 100000 in
theorem dX5_operated_314 : decode cX5_operated 314 = .ok (.iconst 0, 1) := by decide +kernel
set_option maxRecDepth 100000 in
theorem dX5_operated_315 : decode cX5_operated 315 = .ok (.iconst 0, 1) := by decide +kernel
set_option maxRecDepth 100000 in
theorem dX5_operated_316 : decode cX5_operated 316 = .ok (.iconst 0, 1) := by decide +kernel
set_option maxRecDepth 100000 in
theorem dX5_operated_317 : decode cX5_operated 317 = .ok (.iconst 0, 1) := by decide +kernel
set_option maxRecDepth 100000 in
theorem dX5_operated_318 : decode cX5_operated 318 = .ok (.invokevirtual 506, 3) := by decide +kernel
set_option maxRecDepth 100000 in
theorem dX5_operated_321 : decode cX5_operated 321 = .ok (.pop, 1) := by decide +kernel
set_option maxRecDepth 100000 in
theorem dX5_operated_322 : decode cX5_operated 322 = .ok (.aload_n 2, 1) := by decide +kernel
set_option maxRecDepth 100000 in
theorem dX5_operated_323 : decode cX5_operated 323 = .ok (.getfield 289, 3) := by decide +kernel
set_option maxRecDepth 100000 in
theorem dX5_operated_326 : decode cX5_operated 326 = .ok (.bipush 12, 2) := by decide +kernel
set_option maxRecDepth 100000 in
theorem dX5_operated_328 : decode cX5_operated 328 = .ok (.if_icmp .ne 32, 3) := by decide +kernel
set_option maxRecDepth 100000 in
theorem dX5_operated_331 : decode cX5_operated 331 = .ok (.aload_n 3, 1) := by decide +kernel
set_option maxRecDepth 100000 in
theorem dX5_operated_332 : decode cX5_operated 332 = .ok (.getfield 289, 3) := by decide +kernel
set_option maxRecDepth 100000 in
theorem dX5_operated_335 : decode cX5_operated 335 = .ok (.bipush 12, 2) := by decide +kernel
set_option maxRecDepth 100000 in
theorem dX5_operated_337 : decode cX5_operated 337 = .ok (.if_icmp .ne 10, 3) := by decide +kernel
set_option maxRecDepth 100000 in
theorem dX5_operated_340 : decode cX5_operated 340 = .ok (.aload_n 0, 1) := by decide +kernel
set_option maxRecDepth 100000 in
theorem dX5_operated_341 : decode cX5_operated 341 = .ok (.getfield 45, 3) := by decide +kernel
set_option maxRecDepth 100000 in
theorem dX5_operated_344 : decode cX5_operated 344 = .ok (.goto 26, 3) := by decide +kernel
set_option maxRecDepth 100000 in
theorem dX5_operated_347 : decode cX5_operated 347 = .ok (.aload_n 3, 1) := by decide +kernel
set_option maxRecDepth 100000 in
theorem dX5_operated_348 : decode cX5_operated 348 = .ok (.getfield 286, 3) := by decide +kernel
set_option maxRecDepth 100000 in
theorem dX5_operated_351 : decode cX5_operated 351 = .ok (.invokevirtual 393, 3) := by decide +kernel
set_option maxRecDepth 100000 in
theorem dX5_operated_354 : decode cX5_operated 354 = .ok (.invokevirtual 830, 3) := by decide +kernel
set_option maxRecDepth 100000 in
theorem dX5_operated_357 : decode cX5_operated 357 = .ok (.goto 13, 3) := by decide +kernel
set_option maxRecDepth 100000 in
theorem dX5_operated_360 : decode cX5_operated 360 = .ok (.aload_n 2, 1) := by decide +kernel
set_option maxRecDepth 100000 in
theorem dX5_operated_361 : decode cX5_operated 361 = .ok (.getfield 286, 3) := by decide +kernel
set_option maxRecDepth 100000 in
theorem dX5_operated_364 : decode cX5_operated 364 = .ok (.invokevirtual 393, 3) := by decide +kernel
set_option maxRecDepth 100000 in
theorem dX5_operated_367 : decode cX5_operated 367 = .ok (.invokevirtual 830, 3) := by decide +kernel
set_option maxRecDepth 100000 in
theorem dX5_operated_370 : decode cX5_operated 370 = .ok (.areturn, 1) := by decide +kernel
set_option maxRecDepth 100000 in
theorem dX5_operated_371 : decode cX5_operated 371 = .ok (.aload_n 0, 1) := by decide +kernel
set_option maxRecDepth 100000 in
theorem dX5_operated_372 : decode cX5_operated 372 = .ok (.aload_n 2, 1) := by decide +kernel
set_option maxRecDepth 100000 in
theorem dX5_operated_373 : decode cX5_operated 373 = .ok (.aload_n 3, 1) := by decide +kernel
set_option maxRecDepth 100000 in
theorem dX5_operated_374 : decode cX5_operated 374 = .ok (.invokevirtual 847, 3) := by decide +kernel
set_option maxRecDepth 100000 in
theorem dX5_operated_377 : decode cX5_operated 377 = .ok (.ifCond .ne 12, 3) := by decide +kernel
set_option maxRecDepth 100000 in
theorem dX5_operated_380 : decode cX5_operated 380 = .ok (.aload_n 0, 1) := by decide +kernel
set_option maxRecDepth 100000 in
theorem dX5_operated_381 : decode cX5_operated 381 = .ok (.bipush 7, 2) := by decide +kernel
set_option maxRecDepth 100000 in
theorem dX5_operated_383 : decode cX5_operated 383 = .ok (.iload 5, 2) := by decide +kernel
set_option maxRecDepth 100000 in
theorem dX5_operated_385 : decode cX5_operated 385 = .ok (.invokevirtual 163, 3) := by decide +kernel
set_option maxRecDepth 100000 in
theorem dX5_operated_388 : decode cX5_operated 388 = .ok (.athrow, 1) := by decide +kernel
set_option maxRecDepth 100000 in
theorem dX5_operated_389 : decode cX5_operated 389 = .ok (.aload_n 2, 1) := by decide +kernel
set_option maxRecDepth 100000 in
theorem dX5_operated_390 : decode cX5_operated 390 = .ok (.aload_n 0, 1) := by decide +kernel
set_option maxRecDepth 100000 in
theorem dX5_operated_391 : decode cX5_operated 391 = .ok (.getfield 20, 3) := by decide +kernel
set_option maxRecDepth 100000 in
theorem dX5_operated_394 : decode cX5_operated 394 = .ok (.if_acmp .ne 15, 3) := by decide +kernel
set_option maxRecDepth 100000 in
theorem dX5_operated_397 : decode cX5_operated 397 = .ok (.aload_n 3, 1) := by decide +kernel
set_option maxRecDepth 100000 in
theorem dX5_operated_398 : decode cX5_operated 398 = .ok (.aload_n 0, 1) := by decide +kernel
set_option maxRecDepth 100000 in
theorem dX5_operated_399 : decode cX5_operated 399 = .ok (.getfield 20, 3) := by decide +kernel
set_option maxRecDepth 100000 in
theorem dX5_operated_402 : decode cX5_operated 402 = .ok (.if_acmp .ne 7, 3) := by decide +kernel
set_option maxRecDepth 100000 in
theorem dX5_operated_405 : decode cX5_operated 405 = .ok (.iconst 1, 1) := by decide +kernel
set_option maxRecDepth 100000 in
theorem dX5_operated_406 : decode cX5_operated 406 = .ok (.goto 4, 3) := by decide +kernel
set_option maxRecDepth 100000 in
theorem dX5_operated_409 : decode cX5_operated 409 = .ok (.iconst 0, 1) := by decide +kernel
set_option maxRecDepth 100000 in
theorem dX5_operated_410 : decode cX5_operated 410 = .ok (.istore 7, 2) := by decide +kernel
set_option maxRecDepth 100000 in
theorem dX5_operated_412 : decode cX5_operated 412 = .ok (.iload 7, 2) := by decide +kernel
set_option maxRecDepth 100000 in
theorem dX5_operated_414 : decode cX5_operated 414 = .ok (.ifCond .ne 9, 3) := by decide +kernel
set_option maxRecDepth 100000 in
theorem dX5_operated_417 : decode cX5_operated 417 = .ok (.aload_n 0, 1) := by decide +kernel
set_option maxRecDepth 100000 in
theorem dX5_operated_418 : decode cX5_operated 418 = .ok (.aload_n 2, 1) := by decide +kernel
set_option maxRecDepth 100000 in
theorem dX5_operated_419 : decode cX5_operated 419 = .ok (.aload_n 3, 1) := by decide +kernel
set_option maxRecDepth 100000 in
theorem dX5_operated_420 : decode cX5_operated 420 = .ok (.invokevirtual 851, 3) := by decide +kernel
set_option maxRecDepth 100000 in
theorem dX5_operated_423 : decode cX5_operated 423 = .ok (.aload_n 0, 1) := by decide +kernel
set_option maxRecDepth 100000 in
theorem dX5_operated_424 : decode cX5_operated 424 = .ok (.getfield 62, 3) := by decide +kernel
set_option maxRecDepth 100000 in
theorem dX5_operated_427 : decode cX5_operated 427 = .ok (.iload 7, 2) := by decide +kernel
set_option maxRecDepth 100000 in
theorem dX5_operated_429 : decode cX5_operated 429 = .ok (.ifCond .eq 8, 3) := by decide +kernel
set_option maxRecDepth 100000 in
theorem dX5_operated_432 : decode cX5_operated 432 = .ok (.bipush 20, 2) := by decide +kernel
set_option maxRecDepth 100000 in
theorem dX5_operated_434 : decode cX5_operated 434 = .ok (.goto 5, 3) := by decide +kernel
set_option maxRecDepth 100000 in
theorem dX5_operated_437 : decode cX5_operated 437 = .ok (.bipush 26, 2) := by decide +kernel
set_option maxRecDepth 100000 in
theorem dX5_operated_439 : decode cX5_operated 439 = .ok (.iload 6, 2) := by decide +kernel
set_option maxRecDepth 100000 in
theorem dX5_operated_441 : decode cX5_operated 441 = .ok (.iadd, 1) := by decide +kernel
set_option maxRecDepth 100000 in
theorem dX5_operated_442 : decode cX5_operated 442 = .ok (.iconst 0, 1) := by decide +kernel
set_option maxRecDepth 100000 in
theorem dX5_operated_443 : decode cX5_operated 443 = .ok (.iconst 0, 1) := by decide +kernel
set_option maxRecDepth 100000 in
theorem dX5_operated_444 : decode cX5_operated 444 = .ok (.iconst 0, 1) := by decide +kernel
set_option maxRecDepth 100000 in
theorem dX5_operated_445 : decode cX5_operated 445 = .ok (.iload 5, 2) := by decide +kernel
set_option maxRecDepth 100000 in
theorem dX5_operated_447 : decode cX5_operated 447 = .ok (.invokevirtual 506, 3) := by decide +kernel
set_option maxRecDepth 100000 in
theorem dX5_operated_450 : decode cX5_operated 450 = .ok (.pop, 1) := by decide +kernel
set_option maxRecDepth 100000 in
theorem dX5_operated_451 : decode cX5_operated 451 = .ok (.iload 7, 2) := by decide +kernel
set_option maxRecDepth 100000 in
theorem dX5_operated_453 : decode cX5_operated 453 = .ok (.ifCond .eq 10, 3) := by decide +kernel
set_option maxRecDepth 100000 in
theorem dX5_operated_456 : decode cX5_operated 456 = .ok (.aload_n 0, 1) := by decide +kernel
set_option maxRecDepth 100000 in
theorem dX5_operated_457 : decode cX5_operated 457 = .ok (.getfield 20, 3) := by decide +kernel
set_option maxRecDepth 100000 in
theorem dX5_operated_460 : decode cX5_operated 460 = .ok (.goto 7, 3) := by decide +kernel
set_option maxRecDepth 100000 in
theorem dX5_operated_463 : decode cX5_operated 463 = .ok (.aload_n 0, 1) := by decide +kernel
set_option maxRecDepth 100000 in
theorem dX5_operated_464 : decode cX5_operated 464 = .ok (.getfield 26, 3) := by decide +kernel
set_option maxRecDepth 100000 in
theorem dX5_operated_467 : decode cX5_operated 467 = .ok (.areturn, 1) := by decide +kernel
set_option maxRecDepth 100000 in
def bX5_operated_467 (G : xG) (fr lo : Nat) (s0 : Nat) (h : xH) (Q : Outcome → xH → Prop) : Prop := Q (.returned (some (rv s0))) h
set_option maxRecDepth 100000 in
theorem uX5_operated_467 {G : xG} {fr lo : Nat} {s0 : Nat} {h : xH} {Q : Outcome → xH → Prop} (hq : bX5_operated_467 G fr lo s0 h Q) : xP G YX5_operated fr lo 467 [] [rv s0] h Q := by
  unfold bX5_operated_467 at hq
  exact x_aret rfl xty_O dX5_operated_467 hq
set_option maxRecDepth 100000 in
def bX5_operated_439 (G : xG) (fr lo : Nat) (x0 : Nat) (x5 : Int32) (x6 : Int32) (x7 : Int32) (s0 : Int32) (s1 : Nat) (h : xH) (Q : Outcome → xH → Prop) : Prop := tg h s1 = 3 ∧ 1 ≤ fr ∧ 17 ≤ lo ∧ xRi G YX2_put (fr - 1) (lo - 17) [rv s1, .int (s0 + x6), .int 0, .int 0, .int 0, .int x5] h (fun x5 h4 => xext h h4 → ((x7 = 0 → tg h4 x0 = 6 ∧ bX5_operated_467 G fr lo (fR h4 x0 1283) h4 Q) ∧ (¬ x7 = 0 → tg h4 x0 = 6 ∧ bX5_operated_467 G fr lo (fR h4 x0 1282) h4 Q))) (fun r h2 => Q (.threw r) h2)
set_option maxRecDepth 100000 in
theorem uX5_operated_439 {G : xG} {fr lo : Nat} {x0 : Nat} {x5 : Int32} {x6 : Int32} {x7 : Int32} {s0 : Int32} {s1 : Nat} {h : xH} {Q : Outcome → xH → Prop} (hq : bX5_operated_439 G fr lo x0 x5 x6 x7 s0 s1 h Q) : xP G YX5_operated fr lo 439 [(0, rv x0), (5, .int x5), (6, .int x6), (7, .int x7)] [.int s0, rv s1] h Q := by
  unfold bX5_operated_439 at hq
  refine x_iload 2 dX5_operated_439 rfl ?_
  refine x_iadd dX5_operated_441 ?_
  refine x_iconst (v := 0) dX5_operated_442 (by decide) ?_
  refine x_iconst (v := 0) dX5_operated_443 (by decide) ?_
  refine x_iconst (v := 0) dX5_operated_444 (by decide) ?_
  refine x_iload 1 dX5_operated_445 rfl ?_
  obtain ⟨g1, hq⟩ := hq
  obtain ⟨g2, g3, hq⟩ := hq
  refine x_callV (Yc := YX2_put) (as := [.int (s0 + x6), .int 0, .int 0, .int 0, .int x5]) (st := []) q2494 mvX2_put g1 rfl dX5_operated_447 (xle (xal1 (rv_cat _) (xal1 rfl (xal1 rfl (xal1 rfl (xal1 rfl (xal1 rfl xal0)))))) (by decide)) (xfr g2) (xlo xsw0 (by decide) g3) (xKi hq (fun x5 h4 hq e6 => ?_) (fun _ _ q _ => q))
  replace hq := hq e6
  refine x_pop dX5_operated_450 rfl ?_
  refine x_iload 3 dX5_operated_451 rfl ?_
  refine x_if_eq (tgt := 463) dX5_operated_453 (by decide) (fun c7 => ?_) (fun c7 => ?_)
  · replace hq := hq.1 c7
    refine x_aload_n 0 dX5_operated_463 rfl ?_
    obtain ⟨g8, hq⟩ := hq
    refine x_get (v := rv (fR h4 x0 1283)) fdX5_26 dX5_operated_464 g8 rfl ?_
    refine xP.pick (lv' := []) [] rfl ?_
    exact uX5_operated_467 hq
  · replace hq := hq.2 c7
    refine x_aload_n 0 dX5_operated_456 rfl ?_
    obtain ⟨g9, hq⟩ := hq
    refine x_get (v := rv (fR h4 x0 1282)) fdX5_20 dX5_operated_457 g9 rfl ?_
    refine x_goto (tgt := 467) dX5_operated_460 (by decide) ?_
    refine xP.pick (lv' := []) [] rfl ?_
    exact uX5_operated_467 hq
set_option maxRecDepth 100000 in
def bX5_operated_423 (G : xG) (fr lo : Nat) (x0 : Nat) (x5 : Int32) (x6 : Int32) (x7 : Int32) (h : xH) (Q : Outcome → xH → Prop) : Prop := tg h x0 = 6 ∧ ((x7 = 0 → bX5_operated_439 G fr lo x0 x5 x6 x7 26 (fR h x0 1281) h Q) ∧ (¬ x7 = 0 → bX5_operated_439 G fr lo x0 x5 x6 x7 20 (fR h x0 1281) h Q))
set_option maxRecDepth 100000 in
theorem uX5_operated_423 {G : xG} {fr lo : Nat} {x0 : Nat} {x5 : Int32} {x6 : Int32} {x7 : Int32} {h : xH} {Q : Outcome → xH → Prop} (hq : bX5_operated_423 G fr lo x0 x5 x6 x7 h Q) : xP G YX5_operated fr lo 423 [(0, rv x0), (5, .int x5), (6, .int x6), (7, .int x7)] [] h Q := by
  unfold bX5_operated_423 at hq
  refine x_aload_n 0 dX5_operated_423 rfl ?_
  obtain ⟨g1, hq⟩ := hq
  refine x_get (v := rv (fR h x0 1281)) fdX5_62 dX5_operated_424 g1 rfl ?_
  refine x_iload 3 dX5_operated_427 rfl ?_
  refine x_if_eq (tgt := 437) dX5_operated_429 (by decide) (fun c2 => ?_) (fun c2 => ?_)
  · replace hq := hq.1 c2
    refine x_bipush (v := 26) dX5_operated_437 (by decide) ?_
    exact uX5_operated_439 hq
  · replace hq := hq.2 c2
    refine x_bipush (v := 20) dX5_operated_432 (by decide) ?_
    refine x_goto (tgt := 439) dX5_operated_434 (by decide) ?_
    exact uX5_operated_439 hq
set_option maxRecDepth 100000 in
def bX5_operated_410 (G : xG) (fr lo : Nat) (x0 : Nat) (x2 : Nat) (x3 : Nat) (x5 : Int32) (x6 : Int32) (s0 : Int32) (h : xH) (Q : Outcome → xH → Prop) : Prop := ((¬ s0 = 0 → bX5_operated_423 G fr lo x0 x5 x6 s0 h Q) ∧ (s0 = 0 → tg h x0 = 6 ∧ 1 ≤ fr ∧ 14 ≤ lo ∧ xRv G YX5_floats (fr - 1) (lo - 14) [rv x0, rv x2, rv x3] h (fun h5 => xext h h5 → bX5_operated_423 G fr lo x0 x5 x6 s0 h5 Q) (fun r h2 => Q (.threw r) h2)))
set_option maxRecDepth 100000 in
theorem uX5_operated_410 {G : xG} {fr lo : Nat} {x0 : Nat} {x2 : Nat} {x3 : Nat} {x5 : Int32} {x6 : Int32} {s0 : Int32} {h : xH} {Q : Outcome → xH → Prop} (hq : bX5_operated_410 G fr lo x0 x2 x3 x5 x6 s0 h Q) : xP G YX5_operated fr lo 410 [(0, rv x0), (2, rv x2), (3, rv x3), (5, .int x5), (6, .int x6)] [.int s0] h Q := by
  unfold bX5_operated_410 at hq
  refine x_istore (lv' := [(7, .int s0), (0, rv x0), (2, rv x2), (3, rv x3), (5, .int x5), (6, .int x6)]) dX5_operated_410 (by decide) rfl ?_
  refine x_iload 0 dX5_operated_412 rfl ?_
  refine x_if_ne (tgt := 423) dX5_operated_414 (by decide) (fun c1 => ?_) (fun c1 => ?_)
  · replace hq := hq.1 c1
    refine xP.pick (lv' := [(0, rv x0), (5, .int x5), (6, .int x6), (7, .int s0)]) [1, 4, 5, 0] rfl ?_
    exact uX5_operated_423 hq
  · replace hq := hq.2 c1
    refine x_aload_n 1 dX5_operated_417 rfl ?_
    refine x_aload_n 2 dX5_operated_418 rfl ?_
    refine x_aload_n 3 dX5_operated_419 rfl ?_
    obtain ⟨g2, hq⟩ := hq
    obtain ⟨g3, g4, hq⟩ := hq
    refine x_callV (Yc := YX5_floats) (as := [rv x2, rv x3]) (st := []) q2674 mvX5_floats g2 rfl dX5_operated_420 (xle (xal1 (rv_cat _) (xal1 (rv_cat _) (xal1 (rv_cat _) xal0))) (by decide)) (xfr g3) (xlo xsw0 (by decide) g4) (xKv hq (fun h5 hq e7 => ?_) (fun _ _ q _ => q))
    replace hq := hq e7
    refine xP.pick (lv' := [(0, rv x0), (5, .int x5), (6, .int x6), (7, .int s0)]) [1, 4, 5, 0] rfl ?_
    exact uX5_operated_423 hq
set_option maxRecDepth 100000 in
def bX5_operated_409 (G : xG) (fr lo : Nat) (x0 : Nat) (x2 : Nat) (x3 : Nat) (x5 : Int32) (x6 : Int32) (h : xH) (Q : Outcome → xH → Prop) : Prop := bX5_operated_410 G fr lo x0 x2 x3 x5 x6 0 h Q
set_option maxRecDepth 100000 in
theorem uX5_operated_409 {G : xG} {fr lo : Nat} {x0 : Nat} {x2 : Nat} {x3 : Nat} {x5 : Int32} {x6 : Int32} {h : xH} {Q : Outcome → xH → Prop} (hq : bX5_operated_409 G fr lo x0 x2 x3 x5 x6 h Q) : xP G YX5_operated fr lo 409 [(0, rv x0), (2, rv x2), (3, rv x3), (5, .int x5), (6, .int x6)] [] h Q := by
  unfold bX5_operated_409 at hq
  refine x_iconst (v := 0) dX5_operated_409 (by decide) ?_
  exact uX5_operated_410 hq
set_option maxRecDepth 100000 in
def bX5_operated_371 (G : xG) (fr lo : Nat) (x0 : Nat) (x2 : Nat) (x3 : Nat) (x5 : Int32) (x6 : Int32) (h : xH) (Q : Outcome → xH → Prop) : Prop := tg h x0 = 6 ∧ 1 ≤ fr ∧ 14 ≤ lo ∧ xRi G YX5_isMixed (fr - 1) (lo - 14) [rv x0, rv x2, rv x3] h (fun x5 h4 => xext h h4 → ((¬ x5 = 0 → ((¬ x2 = (fR h4 x0 1282) → bX5_operated_409 G fr lo x0 x2 x3 x5 x6 h4 Q) ∧ (x2 = (fR h4 x0 1282) → ((¬ x3 = (fR h4 x0 1282) → bX5_operated_409 G fr lo x0 x2 x3 x5 x6 h4 Q) ∧ (x3 = (fR h4 x0 1282) → bX5_operated_410 G fr lo x0 x2 x3 x5 x6 1 h4 Q))))) ∧ (x5 = 0 → 1 ≤ fr ∧ 14 ≤ lo ∧ xRr G YX5_fault (fr - 1) (lo - 14) [rv x0, .int 7, .int x5] h4 (fun x15 h14 => xext h4 h14 → (∃ r17, x15 = r17 + 1 ∧ Q (.threw r17) h14)) (fun r h2 => Q (.threw r) h2)))) (fun r h2 => Q (.threw r) h2)
set_option maxRecDepth 100000 in
theorem uX5_operated_371 {G : xG} {fr lo : Nat} {x0 : Nat} {x2 : Nat} {x3 : Nat} {x5 : Int32} {x6 : Int32} {h : xH} {Q : Outcome → xH → Prop} (hq : bX5_operated_371 G fr lo x0 x2 x3 x5 x6 h Q) : xP G YX5_operated fr lo 371 [(0, rv x0), (2, rv x2), (3, rv x3), (5, .int x5), (6, .int x6)] [] h Q := by
  unfold bX5_operated_371 at hq
  refine x_aload_n 0 dX5_operated_371 rfl ?_
  refine x_aload_n 1 dX5_operated_372 rfl ?_
  refine x_aload_n 2 dX5_operated_373 rfl ?_
  obtain ⟨g1, hq⟩ := hq
  obtain ⟨g2, g3, hq⟩ := hq
  refine x_callV (Yc := YX5_isMixed) (as := [rv x2, rv x3]) (st := []) q2670 mvX5_isMixed g1 rfl dX5_operated_374 (xle (xal1 (rv_cat _) (xal1 (rv_cat _) (xal1 (rv_cat _) xal0))) (by decide)) (xfr g2) (xlo xsw0 (by decide) g3) (xKi hq (fun x5 h4 hq e6 => ?_) (fun _ _ q _ => q))
  replace hq := hq e6
  refine x_if_ne (tgt := 389) dX5_operated_377 (by decide) (fun c7 => ?_) (fun c7 => ?_)
  · replace hq := hq.1 c7
    refine x_aload_n 1 dX5_operated_389 rfl ?_
    refine x_aload_n 0 dX5_operated_390 rfl ?_
    have t8 : tg h4 x0 = 6 := e6.tg g1 (by decide)
    refine x_get (v := rv (fR h4 x0 1282)) fdX5_20 dX5_operated_391 t8 rfl ?_
    refine x_acmp_ne (tgt := 409) dX5_operated_394 (by decide) (fun c9 => ?_) (fun c9 => ?_)
    · replace hq := hq.1 c9
      exact uX5_operated_409 hq
    · replace hq := hq.2 c9
      refine x_aload_n 2 dX5_operated_397 rfl ?_
      refine x_aload_n 0 dX5_operated_398 rfl ?_
      refine x_get (v := rv (fR h4 x0 1282)) fdX5_20 dX5_operated_399 t8 rfl ?_
      refine x_acmp_ne (tgt := 409) dX5_operated_402 (by decide) (fun c10 => ?_) (fun c10 => ?_)
      · replace hq := hq.1 c10
        exact uX5_operated_409 hq
      · replace hq := hq.2 c10
        refine x_iconst (v := 1) dX5_operated_405 (by decide) ?_
        refine x_goto (tgt := 410) dX5_operated_406 (by decide) ?_
        exact uX5_operated_410 hq
  · replace hq := hq.2 c7
    refine x_aload_n 0 dX5_operated_380 rfl ?_
    refine x_bipush (v := 7) dX5_operated_381 (by decide) ?_
    refine x_iload 3 dX5_operated_383 rfl ?_
    have t11 : tg h4 x0 = 6 := e6.tg g1 (by decide)
    obtain ⟨g12, g13, hq⟩ := hq
    refine x_callV (Yc := YX5_fault) (as := [.int 7, .int x5]) (st := []) q2087 mvX5_fault t11 rfl dX5_operated_385 (xle (xal1 (rv_cat _) (xal1 rfl (xal1 rfl xal0))) (by decide)) (xfr g12) (xlo xsw0 (by decide) g13) (xKr hq (fun x15 h14 hq e16 => ?_) (fun _ _ q _ => q))
    replace hq := hq e16
    obtain ⟨r17, g18, hq⟩ := hq
    rw [g18]
    exact x_athrow dX5_operated_388 hq
set_option maxRecDepth 100000 in
def bX5_operated_370 (G : xG) (fr lo : Nat) (s0 : Nat) (h : xH) (Q : Outcome → xH → Prop) : Prop := Q (.returned (some (rv s0))) h
set_option maxRecDepth 100000 in
theorem uX5_operated_370 {G : xG} {fr lo : Nat} {s0 : Nat} {h : xH} {Q : Outcome → xH → Prop} (hq : bX5_operated_370 G fr lo s0 h Q) : xP G YX5_operated fr lo 370 [] [rv s0] h Q := by
  unfold bX5_operated_370 at hq
  exact x_aret rfl xty_O dX5_operated_370 hq
set_option maxRecDepth 100000 in
def bX5_operated_314 (G : xG) (fr lo : Nat) (x0 : Nat) (x2 : Nat) (x3 : Nat) (s0 : Int32) (s1 : Nat) (h : xH) (Q : Outcome → xH → Prop) : Prop := tg h s1 = 3 ∧ 1 ≤ fr ∧ 17 ≤ lo ∧ xRi G YX2_put (fr - 1) (lo - 17) [rv s1, .int s0, .int 0, .int 0, .int 0, .int 0] h (fun x5 h4 => xext h h4 → tg h4 x2 = 7 ∧ ((¬ (fI h4 x2 1536) = 12 → tg h4 (fR h4 x2 1538) = 7 ∧ 1 ≤ fr ∧ 12 ≤ lo ∧ xRr G YX6_own (fr - 1) (lo - 12) [rv (fR h4 x2 1538)] h4 (fun x13 h12 => xext h4 h12 → tg h12 x13 = 7 ∧ 1 ≤ fr ∧ 12 ≤ lo ∧ xRr G YX6_setOf (fr - 1) (lo - 12) [rv x13] h12 (fun x19 h18 => xext h12 h18 → bX5_operated_370 G fr lo x19 h18 Q) (fun r h2 => Q (.threw r) h2)) (fun r h2 => Q (.threw r) h2)) ∧ ((fI h4 x2 1536) = 12 → tg h4 x3 = 7 ∧ ((¬ (fI h4 x3 1536) = 12 → tg h4 (fR h4 x3 1538) = 7 ∧ 1 ≤ fr ∧ 12 ≤ lo ∧ xRr G YX6_own (fr - 1) (lo - 12) [rv (fR h4 x3 1538)] h4 (fun x27 h26 => xext h4 h26 → tg h26 x27 = 7 ∧ 1 ≤ fr ∧ 12 ≤ lo ∧ xRr G YX6_setOf (fr - 1) (lo - 12) [rv x27] h26 (fun x33 h32 => xext h26 h32 → bX5_operated_370 G fr lo x33 h32 Q) (fun r h2 => Q (.threw r) h2)) (fun r h2 => Q (.threw r) h2)) ∧ ((fI h4 x3 1536) = 12 → tg h4 x0 = 6 ∧ bX5_operated_370 G fr lo (fR h4 x0 1288) h4 Q))))) (fun r h2 => Q (.threw r) h2)
set_option maxRecDepth 100000 in
theorem uX5_operated_314 {G : xG} {fr lo : Nat} {x0 : Nat} {x2 : Nat} {x3 : Nat} {s0 : Int32} {s1 : Nat} {h : xH} {Q : Outcome → xH → Prop} (hq : bX5_operated_314 G fr lo x0 x2 x3 s0 s1 h Q) : xP G YX5_operated fr lo 314 [(0, rv x0), (2, rv x2), (3, rv x3)] [.int s0, rv s1] h Q := by
  unfold bX5_operated_314 at hq
  refine x_iconst (v := 0) dX5_operated_314 (by decide) ?_
  refine x_iconst (v := 0) dX5_operated_315 (by decide) ?_
  refine x_iconst (v := 0) dX5_operated_316 (by decide) ?_
  refine x_iconst (v := 0) dX5_operated_317 (by decide) ?_
  obtain ⟨g1, hq⟩ := hq
  obtain ⟨g2, g3, hq⟩ := hq
  refine x_callV (Yc := YX2_put) (as := [.int s0, .int 0, .int 0, .int 0, .int 0]) (st := []) q2494 mvX2_put g1 rfl dX5_operated_318 (xle (xal1 (rv_cat _) (xal1 rfl (xal1 rfl (xal1 rfl (xal1 rfl (xal1 rfl xal0)))))) (by decide)) (xfr g2) (xlo xsw0 (by decide) g3) (xKi hq (fun x5 h4 hq e6 => ?_) (fun _ _ q _ => q))
  replace hq := hq e6
  refine x_pop dX5_operated_321 rfl ?_
  refine x_aload_n 1 dX5_operated_322 rfl ?_
  obtain ⟨g7, hq⟩ := hq
  refine x_getN (v := .int (fI h4 x2 1536)) gfX5_289 dX5_operated_323 g7 rfl ?_
  refine x_bipush (v := 12) dX5_operated_326 (by decide) ?_
  refine x_icmp_ne (tgt := 360) dX5_operated_328 (by decide) (fun c8 => ?_) (fun c8 => ?_)
  · replace hq := hq.1 c8
    refine x_aload_n 1 dX5_operated_360 rfl ?_
    refine x_getN (v := rv (fR h4 x2 1538)) gfX5_286 dX5_operated_361 g7 rfl ?_
    obtain ⟨g9, hq⟩ := hq
    obtain ⟨g10, g11, hq⟩ := hq
    refine x_callV (Yc := YX6_own) (as := []) (st := []) q2400 mvX6_own g9 rfl dX5_operated_364 (xle (xal1 (rv_cat _) xal0) (by decide)) (xfr g10) (xlo xsw0 (by decide) g11) (xKr hq (fun x13 h12 hq e14 => ?_) (fun _ _ q _ => q))
    replace hq := hq e14
    obtain ⟨g15, hq⟩ := hq
    obtain ⟨g16, g17, hq⟩ := hq
    refine x_callV (Yc := YX6_setOf) (as := []) (st := []) q2542 mvX6_setOf g15 rfl dX5_operated_367 (xle (xal1 (rv_cat _) xal0) (by decide)) (xfr g16) (xlo xsw0 (by decide) g17) (xKr hq (fun x19 h18 hq e20 => ?_) (fun _ _ q _ => q))
    replace hq := hq e20
    refine xP.pick (lv' := []) [] rfl ?_
    exact uX5_operated_370 hq
  · replace hq := hq.2 c8
    refine x_aload_n 2 dX5_operated_331 rfl ?_
    obtain ⟨g21, hq⟩ := hq
    refine x_getN (v := .int (fI h4 x3 1536)) gfX5_289 dX5_operated_332 g21 rfl ?_
    refine x_bipush (v := 12) dX5_operated_335 (by decide) ?_
    refine x_icmp_ne (tgt := 347) dX5_operated_337 (by decide) (fun c22 => ?_) (fun c22 => ?_)
    · replace hq := hq.1 c22
      refine x_aload_n 2 dX5_operated_347 rfl ?_
      refine x_getN (v := rv (fR h4 x3 1538)) gfX5_286 dX5_operated_348 g21 rfl ?_
      obtain ⟨g23, hq⟩ := hq
      obtain ⟨g24, g25, hq⟩ := hq
      refine x_callV (Yc := YX6_own) (as := []) (st := []) q2400 mvX6_own g23 rfl dX5_operated_351 (xle (xal1 (rv_cat _) xal0) (by decide)) (xfr g24) (xlo xsw0 (by decide) g25) (xKr hq (fun x27 h26 hq e28 => ?_) (fun _ _ q _ => q))
      replace hq := hq e28
      obtain ⟨g29, hq⟩ := hq
      obtain ⟨g30, g31, hq⟩ := hq
      refine x_callV (Yc := YX6_setOf) (as := []) (st := []) q2542 mvX6_setOf g29 rfl dX5_operated_354 (xle (xal1 (rv_cat _) xal0) (by decide)) (xfr g30) (xlo xsw0 (by decide) g31) (xKr hq (fun x33 h32 hq e34 => ?_) (fun _ _ q _ => q))
      replace hq := hq e34
      refine x_goto (tgt := 370) dX5_operated_357 (by decide) ?_
      refine xP.pick (lv' := []) [] rfl ?_
      exact uX5_operated_370 hq
    · replace hq := hq.2 c22
      refine x_aload_n 0 dX5_operated_340 rfl ?_
      obtain ⟨g35, hq⟩ := hq
      refine x_get (v := rv (fR h4 x0 1288)) fdX5_45 dX5_operated_341 g35 rfl ?_
      refine x_goto (tgt := 370) dX5_operated_344 (by decide) ?_
      refine xP.pick (lv' := []) [] rfl ?_
      exact uX5_operated_370 hq
set_option maxRecDepth 100000 in
def bX5_operated_263 (G : xG) (fr lo : Nat) (x0 : Nat) (x2 : Nat) (x3 : Nat) (x5 : Int32) (s0 : Int32) (h : xH) (Q : Outcome → xH → Prop) : Prop := tg h x2 = 7 ∧ 1 ≤ fr ∧ 12 ≤ lo ∧ xRi G YX6_isSet (fr - 1) (lo - 12) [rv x2] h (fun x5 h4 => xext h h4 → ((x5 = 0 → bX5_operated_371 G fr lo x0 x2 x3 x5 s0 h4 Q) ∧ (¬ x5 = 0 → tg h4 x3 = 7 ∧ 1 ≤ fr ∧ 12 ≤ lo ∧ xRi G YX6_isSet (fr - 1) (lo - 12) [rv x3] h4 (fun x12 h11 => xext h4 h11 → ((x12 = 0 → bX5_operated_371 G fr lo x0 x2 x3 x5 s0 h11 Q) ∧ (¬ x12 = 0 → 1 ≤ fr ∧ 13 ≤ lo ∧ xRi G YX6_isLike (fr - 1) (lo - 13) [rv x2, rv x3] h11 (fun x20 h19 => xext h11 h19 → ((x20 = 0 → bX5_operated_371 G fr lo x0 x2 x3 x5 s0 h19 Q) ∧ (¬ x20 = 0 → tg h19 x0 = 6 ∧ ((¬ s0 = 0 → ((¬ s0 = 1 → bX5_operated_314 G fr lo x0 x2 x3 46 (fR h19 x0 1281) h19 Q) ∧ (s0 = 1 → bX5_operated_314 G fr lo x0 x2 x3 47 (fR h19 x0 1281) h19 Q))) ∧ (s0 = 0 → bX5_operated_314 G fr lo x0 x2 x3 45 (fR h19 x0 1281) h19 Q))))) (fun r h2 => Q (.threw r) h2)))) (fun r h2 => Q (.threw r) h2)))) (fun r h2 => Q (.threw r) h2)
set_option maxRecDepth 100000 in
theorem uX5_operated_263 {G : xG} {fr lo : Nat} {x0 : Nat} {x2 : Nat} {x3 : Nat} {x5 : Int32} {s0 : Int32} {h : xH} {Q : Outcome → xH → Prop} (hq : bX5_operated_263 G fr lo x0 x2 x3 x5 s0 h Q) : xP G YX5_operated fr lo 263 [(0, rv x0), (2, rv x2), (3, rv x3), (5, .int x5)] [.int s0] h Q := by
  unfold bX5_operated_263 at hq
  refine x_istore (lv' := [(6, .int s0), (0, rv x0), (2, rv x2), (3, rv x3), (5, .int x5)]) dX5_operated_263 (by decide) rfl ?_
  refine x_aload_n 2 dX5_operated_265 rfl ?_
  obtain ⟨g1, hq⟩ := hq
  obtain ⟨g2, g3, hq⟩ := hq
  refine x_callV (Yc := YX6_isSet) (as := []) (st := []) q2679 mvX6_isSet g1 rfl dX5_operated_266 (xle (xal1 (rv_cat _) xal0) (by decide)) (xfr g2) (xlo xsw0 (by decide) g3) (xKi hq (fun x5 h4 hq e6 => ?_) (fun _ _ q _ => q))
  replace hq := hq e6
  refine x_if_eq (tgt := 371) dX5_operated_269 (by decide) (fun c7 => ?_) (fun c7 => ?_)
  · replace hq := hq.1 c7
    refine xP.pick (lv' := [(0, rv x0), (2, rv x2), (3, rv x3), (5, .int x5), (6, .int s0)]) [1, 2, 3, 4, 0] rfl ?_
    exact uX5_operated_371 hq
  · replace hq := hq.2 c7
    refine x_aload_n 3 dX5_operated_272 rfl ?_
    obtain ⟨g8, hq⟩ := hq
    obtain ⟨g9, g10, hq⟩ := hq
    refine x_callV (Yc := YX6_isSet) (as := []) (st := []) q2679 mvX6_isSet g8 rfl dX5_operated_273 (xle (xal1 (rv_cat _) xal0) (by decide)) (xfr g9) (xlo xsw0 (by decide) g10) (xKi hq (fun x12 h11 hq e13 => ?_) (fun _ _ q _ => q))
    replace hq := hq e13
    refine x_if_eq (tgt := 371) dX5_operated_276 (by decide) (fun c14 => ?_) (fun c14 => ?_)
    · replace hq := hq.1 c14
      refine xP.pick (lv' := [(0, rv x0), (2, rv x2), (3, rv x3), (5, .int x5), (6, .int s0)]) [1, 2, 3, 4, 0] rfl ?_
      exact uX5_operated_371 hq
    · replace hq := hq.2 c14
      refine x_aload_n 2 dX5_operated_279 rfl ?_
      refine x_aload_n 3 dX5_operated_280 rfl ?_
      have t15 : tg h4 x2 = 7 := e6.tg g1 (by decide)
      have t16 : tg h11 x2 = 7 := e13.tg t15 (by decide)
      obtain ⟨g17, g18, hq⟩ := hq
      refine x_callV (Yc := YX6_isLike) (as := [rv x3]) (st := []) q2680 mvX6_isLike t16 rfl dX5_operated_281 (xle (xal1 (rv_cat _) (xal1 (rv_cat _) xal0)) (by decide)) (xfr g17) (xlo xsw0 (by decide) g18) (xKi hq (fun x20 h19 hq e21 => ?_) (fun _ _ q _ => q))
      replace hq := hq e21
      refine x_if_eq (tgt := 371) dX5_operated_284 (by decide) (fun c22 => ?_) (fun c22 => ?_)
      · replace hq := hq.1 c22
        refine xP.pick (lv' := [(0, rv x0), (2, rv x2), (3, rv x3), (5, .int x5), (6, .int s0)]) [1, 2, 3, 4, 0] rfl ?_
        exact uX5_operated_371 hq
      · replace hq := hq.2 c22
        refine x_aload_n 1 dX5_operated_287 rfl ?_
        obtain ⟨g23, hq⟩ := hq
        refine x_get (v := rv (fR h19 x0 1281)) fdX5_62 dX5_operated_288 g23 rfl ?_
        refine x_iload 0 dX5_operated_291 rfl ?_
        refine x_if_ne (tgt := 301) dX5_operated_293 (by decide) (fun c24 => ?_) (fun c24 => ?_)
        · replace hq := hq.1 c24
          refine x_iload 0 dX5_operated_301 rfl ?_
          refine x_iconst (v := 1) dX5_operated_303 (by decide) ?_
          refine x_icmp_ne (tgt := 312) dX5_operated_304 (by decide) (fun c25 => ?_) (fun c25 => ?_)
          · replace hq := hq.1 c25
            refine x_bipush (v := 46) dX5_operated_312 (by decide) ?_
            refine xP.pick (lv' := [(0, rv x0), (2, rv x2), (3, rv x3)]) [1, 2, 3] rfl ?_
            exact uX5_operated_314 hq
          · replace hq := hq.2 c25
            refine x_bipush (v := 47) dX5_operated_307 (by decide) ?_
            refine x_goto (tgt := 314) dX5_operated_309 (by decide) ?_
            refine xP.pick (lv' := [(0, rv x0), (2, rv x2), (3, rv x3)]) [1, 2, 3] rfl ?_
            exact uX5_operated_314 hq
        · replace hq := hq.2 c24
          refine x_bipush (v := 45) dX5_operated_296 (by decide) ?_
          refine x_goto (tgt := 314) dX5_operated_298 (by decide) ?_
          refine xP.pick (lv' := [(0, rv x0), (2, rv x2), (3, rv x3)]) [1, 2, 3] rfl ?_
          exact uX5_operated_314 hq
set_option maxRecDepth 100000 in
def bX5_operated_163 (G : xG) (fr lo : Nat) (x0 : Nat) (x5 : Int32) (s0 : Int32) (s1 : Nat) (h : xH) (Q : Outcome → xH → Prop) : Prop := tg h s1 = 3 ∧ 1 ≤ fr ∧ 17 ≤ lo ∧ xRi G YX2_put (fr - 1) (lo - 17) [rv s1, .int s0, .int 0, .int 0, .int 0, .int x5] h (fun x5 h4 => xext h h4 → tg h4 x0 = 6 ∧ Q (.returned (some (rv (fR h4 x0 1282)))) h4) (fun r h2 => Q (.threw r) h2)
set_option maxRecDepth 100000 in
theorem uX5_operated_163 {G : xG} {fr lo : Nat} {x0 : Nat} {x5 : Int32} {s0 : Int32} {s1 : Nat} {h : xH} {Q : Outcome → xH → Prop} (hq : bX5_operated_163 G fr lo x0 x5 s0 s1 h Q) : xP G YX5_operated fr lo 163 [(0, rv x0), (5, .int x5)] [.int s0, rv s1] h Q := by
  unfold bX5_operated_163 at hq
  refine x_iconst (v := 0) dX5_operated_163 (by decide) ?_
  refine x_iconst (v := 0) dX5_operated_164 (by decide) ?_
  refine x_iconst (v := 0) dX5_operated_165 (by decide) ?_
  refine x_iload 1 dX5_operated_166 rfl ?_
  obtain ⟨g1, hq⟩ := hq
  obtain ⟨g2, g3, hq⟩ := hq
  refine x_callV (Yc := YX2_put) (as := [.int s0, .int 0, .int 0, .int 0, .int x5]) (st := []) q2494 mvX2_put g1 rfl dX5_operated_168 (xle (xal1 (rv_cat _) (xal1 rfl (xal1 rfl (xal1 rfl (xal1 rfl (xal1 rfl xal0)))))) (by decide)) (xfr g2) (xlo xsw0 (by decide) g3) (xKi hq (fun x5 h4 hq e6 => ?_) (fun _ _ q _ => q))
  replace hq := hq e6
  refine x_pop dX5_operated_171 rfl ?_
  refine x_aload_n 0 dX5_operated_172 rfl ?_
  obtain ⟨g7, hq⟩ := hq
  refine x_get (v := rv (fR h4 x0 1282)) fdX5_20 dX5_operated_173 g7 rfl ?_
  exact x_aret rfl xty_O dX5_operated_176 hq
set_option maxRecDepth 100000 in
def bX5_operated_132 (G : xG) (fr lo : Nat) (x0 : Nat) (x5 : Int32) (h : xH) (Q : Outcome → xH → Prop) : Prop := tg h x0 = 6 ∧ 1 ≤ fr ∧ 14 ≤ lo ∧ xRr G YX5_fault (fr - 1) (lo - 14) [rv x0, .int 7, .int x5] h (fun x5 h4 => xext h h4 → (∃ r7, x5 = r7 + 1 ∧ Q (.threw r7) h4)) (fun r h2 => Q (.threw r) h2)
set_option maxRecDepth 100000 in
theorem uX5_operated_132 {G : xG} {fr lo : Nat} {x0 : Nat} {x5 : Int32} {h : xH} {Q : Outcome → xH → Prop} (hq : bX5_operated_132 G fr lo x0 x5 h Q) : xP G YX5_operated fr lo 132 [(0, rv x0), (5, .int x5)] [] h Q := by
  unfold bX5_operated_132 at hq
  refine x_aload_n 0 dX5_operated_132 rfl ?_
  refine x_bipush (v := 7) dX5_operated_133 (by decide) ?_
  refine x_iload 1 dX5_operated_135 rfl ?_
  obtain ⟨g1, hq⟩ := hq
  obtain ⟨g2, g3, hq⟩ := hq
  refine x_callV (Yc := YX5_fault) (as := [.int 7, .int x5]) (st := []) q2087 mvX5_fault g1 rfl dX5_operated_137 (xle (xal1 (rv_cat _) (xal1 rfl (xal1 rfl xal0))) (by decide)) (xfr g2) (xlo xsw0 (by decide) g3) (xKr hq (fun x5 h4 hq e6 => ?_) (fun _ _ q _ => q))
  replace hq := hq e6
  obtain ⟨r7, g8, hq⟩ := hq
  rw [g8]
  exact x_athrow dX5_operated_140 hq
set_option maxRecDepth 100000 in
def bX5_operated_116 (G : xG) (fr lo : Nat) (x0 : Nat) (x2 : Nat) (x3 : Nat) (x4 : Nat) (x5 : Int32) (h : xH) (Q : Outcome → xH → Prop) : Prop := tg h x0 = 6 ∧ ((¬ x2 = (fR h x0 1282) → bX5_operated_132 G fr lo x0 x5 h Q) ∧ (x2 = (fR h x0 1282) → ((x3 = (fR h x0 1282) → tg h x4 = 31 ∧ 1 ≤ fr ∧ 15 ≤ lo ∧ xRi G YJ5_equals (fr - 1) (lo - 15) [rv x4, rv (tx G 5)] h (fun x8 h7 => xext h h7 → ((x8 = 0 → bX5_operated_163 G fr lo x0 x5 24 (fR h x0 1281) h7 Q) ∧ (¬ x8 = 0 → bX5_operated_163 G fr lo x0 x5 23 (fR h x0 1281) h7 Q))) (fun r h2 => Q (.threw r) h2)) ∧ (¬ x3 = (fR h x0 1282) → bX5_operated_132 G fr lo x0 x5 h Q))))
set_option maxRecDepth 100000 in
theorem uX5_operated_116 {G : xG} {fr lo : Nat} {x0 : Nat} {x2 : Nat} {x3 : Nat} {x4 : Nat} {x5 : Int32} {h : xH} {Q : Outcome → xH → Prop} (hq : bX5_operated_116 G fr lo x0 x2 x3 x4 x5 h Q) : xP G YX5_operated fr lo 116 [(0, rv x0), (2, rv x2), (3, rv x3), (4, rv x4), (5, .int x5)] [] h Q := by
  unfold bX5_operated_116 at hq
  refine x_aload_n 1 dX5_operated_116 rfl ?_
  refine x_aload_n 0 dX5_operated_117 rfl ?_
  obtain ⟨g1, hq⟩ := hq
  refine x_get (v := rv (fR h x0 1282)) fdX5_20 dX5_operated_118 g1 rfl ?_
  refine x_acmp_ne (tgt := 132) dX5_operated_121 (by decide) (fun c2 => ?_) (fun c2 => ?_)
  · replace hq := hq.1 c2
    refine xP.pick (lv' := [(0, rv x0), (5, .int x5)]) [0, 4] rfl ?_
    exact uX5_operated_132 hq
  · replace hq := hq.2 c2
    refine x_aload_n 2 dX5_operated_124 rfl ?_
    refine x_aload_n 0 dX5_operated_125 rfl ?_
    refine x_get (v := rv (fR h x0 1282)) fdX5_20 dX5_operated_126 g1 rfl ?_
    refine x_acmp_eq (tgt := 141) dX5_operated_129 (by decide) (fun c3 => ?_) (fun c3 => ?_)
    · replace hq := hq.1 c3
      refine x_aload_n 0 dX5_operated_141 rfl ?_
      refine x_get (v := rv (fR h x0 1281)) fdX5_62 dX5_operated_142 g1 rfl ?_
      refine x_aload 3 dX5_operated_145 rfl ?_
      refine x_ldcwS (n := 5) 129 srX5_841 dX5_operated_147 ?_
      obtain ⟨g4, hq⟩ := hq
      obtain ⟨g5, g6, hq⟩ := hq
      refine x_callV (Yc := YJ5_equals) (as := [rv (tx G 5)]) (st := [rv (fR h x0 1281)]) q2086 mvJ5_equals g4 rfl dX5_operated_150 (xle (xal1 (rv_cat _) (xal1 (rv_cat _) xal0)) (by decide)) (xfr g5) (xlo (xsw1 (rv_cat _) xsw0) (by decide) g6) (xKi hq (fun x8 h7 hq e9 => ?_) (fun _ _ q _ => q))
      replace hq := hq e9
      refine x_if_eq (tgt := 161) dX5_operated_153 (by decide) (fun c10 => ?_) (fun c10 => ?_)
      · replace hq := hq.1 c10
        refine x_bipush (v := 24) dX5_operated_161 (by decide) ?_
        refine xP.pick (lv' := [(0, rv x0), (5, .int x5)]) [0, 4] rfl ?_
        exact uX5_operated_163 hq
      · replace hq := hq.2 c10
        refine x_bipush (v := 23) dX5_operated_156 (by decide) ?_
        refine x_goto (tgt := 163) dX5_operated_158 (by decide) ?_
        refine xP.pick (lv' := [(0, rv x0), (5, .int x5)]) [0, 4] rfl ?_
        exact uX5_operated_163 hq
    · replace hq := hq.2 c3
      refine xP.pick (lv' := [(0, rv x0), (5, .int x5)]) [0, 4] rfl ?_
      exact uX5_operated_132 hq
set_option maxRecDepth 100000 in
def bX5_operated_81 (G : xG) (fr lo : Nat) (x0 : Nat) (s0 : Int32) (s1 : Nat) (h : xH) (Q : Outcome → xH → Prop) : Prop := tg h s1 = 3 ∧ 1 ≤ fr ∧ 17 ≤ lo ∧ xRi G YX2_put (fr - 1) (lo - 17) [rv s1, .int s0, .int 0, .int 0, .int 0, .int 0] h (fun x5 h4 => xext h h4 → tg h4 x0 = 6 ∧ Q (.returned (some (rv (fR h4 x0 1284)))) h4) (fun r h2 => Q (.threw r) h2)
set_option maxRecDepth 100000 in
theorem uX5_operated_81 {G : xG} {fr lo : Nat} {x0 : Nat} {s0 : Int32} {s1 : Nat} {h : xH} {Q : Outcome → xH → Prop} (hq : bX5_operated_81 G fr lo x0 s0 s1 h Q) : xP G YX5_operated fr lo 81 [(0, rv x0)] [.int s0, rv s1] h Q := by
  unfold bX5_operated_81 at hq
  refine x_iconst (v := 0) dX5_operated_81 (by decide) ?_
  refine x_iconst (v := 0) dX5_operated_82 (by decide) ?_
  refine x_iconst (v := 0) dX5_operated_83 (by decide) ?_
  refine x_iconst (v := 0) dX5_operated_84 (by decide) ?_
  obtain ⟨g1, hq⟩ := hq
  obtain ⟨g2, g3, hq⟩ := hq
  refine x_callV (Yc := YX2_put) (as := [.int s0, .int 0, .int 0, .int 0, .int 0]) (st := []) q2494 mvX2_put g1 rfl dX5_operated_85 (xle (xal1 (rv_cat _) (xal1 rfl (xal1 rfl (xal1 rfl (xal1 rfl (xal1 rfl xal0)))))) (by decide)) (xfr g2) (xlo xsw0 (by decide) g3) (xKi hq (fun x5 h4 hq e6 => ?_) (fun _ _ q _ => q))
  replace hq := hq e6
  refine x_pop dX5_operated_88 rfl ?_
  refine x_aload_n 0 dX5_operated_89 rfl ?_
  obtain ⟨g7, hq⟩ := hq
  refine x_get (v := rv (fR h4 x0 1284)) fdX5_29 dX5_operated_90 g7 rfl ?_
  exact x_aret rfl xty_O dX5_operated_93 hq
set_option maxRecDepth 100000 in
def bX5_operated_50 (G : xG) (fr lo : Nat) (x0 : Nat) (x5 : Int32) (h : xH) (Q : Outcome → xH → Prop) : Prop := tg h x0 = 6 ∧ 1 ≤ fr ∧ 14 ≤ lo ∧ xRr G YX5_fault (fr - 1) (lo - 14) [rv x0, .int 7, .int x5] h (fun x5 h4 => xext h h4 → (∃ r7, x5 = r7 + 1 ∧ Q (.threw r7) h4)) (fun r h2 => Q (.threw r) h2)
set_option maxRecDepth 100000 in
theorem uX5_operated_50 {G : xG} {fr lo : Nat} {x0 : Nat} {x5 : Int32} {h : xH} {Q : Outcome → xH → Prop} (hq : bX5_operated_50 G fr lo x0 x5 h Q) : xP G YX5_operated fr lo 50 [(0, rv x0), (5, .int x5)] [] h Q := by
  unfold bX5_operated_50 at hq
  refine x_aload_n 0 dX5_operated_50 rfl ?_
  refine x_bipush (v := 7) dX5_operated_51 (by decide) ?_
  refine x_iload 1 dX5_operated_53 rfl ?_
  obtain ⟨g1, hq⟩ := hq
  obtain ⟨g2, g3, hq⟩ := hq
  refine x_callV (Yc := YX5_fault) (as := [.int 7, .int x5]) (st := []) q2087 mvX5_fault g1 rfl dX5_operated_55 (xle (xal1 (rv_cat _) (xal1 rfl (xal1 rfl xal0))) (by decide)) (xfr g2) (xlo xsw0 (by decide) g3) (xKr hq (fun x5 h4 hq e6 => ?_) (fun _ _ q _ => q))
  replace hq := hq e6
  obtain ⟨r7, g8, hq⟩ := hq
  rw [g8]
  exact x_athrow dX5_operated_58 hq
set_option maxRecDepth 100000 in
def bX5_operated_34 (G : xG) (fr lo : Nat) (x0 : Nat) (x2 : Nat) (x3 : Nat) (x4 : Nat) (x5 : Int32) (h : xH) (Q : Outcome → xH → Prop) : Prop := tg h x0 = 6 ∧ ((¬ x2 = (fR h x0 1284) → bX5_operated_50 G fr lo x0 x5 h Q) ∧ (x2 = (fR h x0 1284) → ((x3 = (fR h x0 1284) → tg h x4 = 31 ∧ 1 ≤ fr ∧ 15 ≤ lo ∧ xRi G YJ5_equals (fr - 1) (lo - 15) [rv x4, rv (tx G 0)] h (fun x8 h7 => xext h h7 → ((x8 = 0 → bX5_operated_81 G fr lo x0 34 (fR h x0 1281) h7 Q) ∧ (¬ x8 = 0 → bX5_operated_81 G fr lo x0 33 (fR h x0 1281) h7 Q))) (fun r h2 => Q (.threw r) h2)) ∧ (¬ x3 = (fR h x0 1284) → bX5_operated_50 G fr lo x0 x5 h Q))))
set_option maxRecDepth 100000 in
theorem uX5_operated_34 {G : xG} {fr lo : Nat} {x0 : Nat} {x2 : Nat} {x3 : Nat} {x4 : Nat} {x5 : Int32} {h : xH} {Q : Outcome → xH → Prop} (hq : bX5_operated_34 G fr lo x0 x2 x3 x4 x5 h Q) : xP G YX5_operated fr lo 34 [(0, rv x0), (2, rv x2), (3, rv x3), (4, rv x4), (5, .int x5)] [] h Q := by
  unfold bX5_operated_34 at hq
  refine x_aload_n 1 dX5_operated_34 rfl ?_
  refine x_aload_n 0 dX5_operated_35 rfl ?_
  obtain ⟨g1, hq⟩ := hq
  refine x_get (v := rv (fR h x0 1284)) fdX5_29 dX5_operated_36 g1 rfl ?_
  refine x_acmp_ne (tgt := 50) dX5_operated_39 (by decide) (fun c2 => ?_) (fun c2 => ?_)
  · replace hq := hq.1 c2
    refine xP.pick (lv' := [(0, rv x0), (5, .int x5)]) [0, 4] rfl ?_
    exact uX5_operated_50 hq
  · replace hq := hq.2 c2
    refine x_aload_n 2 dX5_operated_42 rfl ?_
    refine x_aload_n 0 dX5_operated_43 rfl ?_
    refine x_get (v := rv (fR h x0 1284)) fdX5_29 dX5_operated_44 g1 rfl ?_
    refine x_acmp_eq (tgt := 59) dX5_operated_47 (by decide) (fun c3 => ?_) (fun c3 => ?_)
    · replace hq := hq.1 c3
      refine x_aload_n 0 dX5_operated_59 rfl ?_
      refine x_get (v := rv (fR h x0 1281)) fdX5_62 dX5_operated_60 g1 rfl ?_
      refine x_aload 3 dX5_operated_63 rfl ?_
      refine x_ldcwS (n := 0) 127 srX5_837 dX5_operated_65 ?_
      obtain ⟨g4, hq⟩ := hq
      obtain ⟨g5, g6, hq⟩ := hq
      refine x_callV (Yc := YJ5_equals) (as := [rv (tx G 0)]) (st := [rv (fR h x0 1281)]) q2086 mvJ5_equals g4 rfl dX5_operated_68 (xle (xal1 (rv_cat _) (xal1 (rv_cat _) xal0)) (by decide)) (xfr g5) (xlo (xsw1 (rv_cat _) xsw0) (by decide) g6) (xKi hq (fun x8 h7 hq e9 => ?_) (fun _ _ q _ => q))
      replace hq := hq e9
      refine x_if_eq (tgt := 79) dX5_operated_71 (by decide) (fun c10 => ?_) (fun c10 => ?_)
      · replace hq := hq.1 c10
        refine x_bipush (v := 34) dX5_operated_79 (by decide) ?_
        refine xP.pick (lv' := [(0, rv x0)]) [0] rfl ?_
        exact uX5_operated_81 hq
      · replace hq := hq.2 c10
        refine x_bipush (v := 33) dX5_operated_74 (by decide) ?_
        refine x_goto (tgt := 81) dX5_operated_76 (by decide) ?_
        refine xP.pick (lv' := [(0, rv x0)]) [0] rfl ?_
        exact uX5_operated_81 hq
    · replace hq := hq.2 c3
      refine xP.pick (lv' := [(0, rv x0), (5, .int x5)]) [0, 4] rfl ?_
      exact uX5_operated_50 hq
set_option maxRecDepth 100000 in
def bX5_operated (G : xG) (fr lo : Nat) (x0 : Nat) (x1 : Nat) (x2 : Nat) (x3 : Nat) (h : xH) (Q : Outcome → xH → Prop) : Prop := tg h x1 = 16 ∧ 1 ≤ fr ∧ 12 ≤ lo ∧ xRr G YX15_text (fr - 1) (lo - 12) [rv x1] h (fun x5 h4 => xext h h4 → 1 ≤ fr ∧ 12 ≤ lo ∧ xRi G YX15_place (fr - 1) (lo - 12) [rv x1] h4 (fun x11 h10 => xext h4 h10 → tg h10 x5 = 31 ∧ 1 ≤ fr ∧ 14 ≤ lo ∧ xRi G YJ5_equals (fr - 1) (lo - 14) [rv x5, rv (tx G 0)] h10 (fun x17 h16 => xext h10 h16 → ((¬ x17 = 0 → bX5_operated_34 G fr lo x0 x2 x3 x5 x11 h16 Q) ∧ (x17 = 0 → 1 ≤ fr ∧ 14 ≤ lo ∧ xRi G YJ5_equals (fr - 1) (lo - 14) [rv x5, rv (tx G 21)] h16 (fun x24 h23 => xext h16 h23 → ((x24 = 0 → 1 ≤ fr ∧ 14 ≤ lo ∧ xRi G YJ5_equals (fr - 1) (lo - 14) [rv x5, rv (tx G 5)] h23 (fun x31 h30 => xext h23 h30 → ((¬ x31 = 0 → bX5_operated_116 G fr lo x0 x2 x3 x5 x11 h30 Q) ∧ (x31 = 0 → 1 ≤ fr ∧ 14 ≤ lo ∧ xRi G YJ5_equals (fr - 1) (lo - 14) [rv x5, rv (tx G 17)] h30 (fun x38 h37 => xext h30 h37 → ((x38 = 0 → 1 ≤ fr ∧ 14 ≤ lo ∧ xRi G YJ5_equals (fr - 1) (lo - 14) [rv x5, rv (tx G 56)] h37 (fun x45 h44 => xext h37 h44 → ((x45 = 0 → 1 ≤ fr ∧ 14 ≤ lo ∧ xRi G YJ5_equals (fr - 1) (lo - 14) [rv x5, rv (tx G 53)] h44 (fun x52 h51 => xext h44 h51 → ((x52 = 0 → 1 ≤ fr ∧ 14 ≤ lo ∧ xRi G YJ5_equals (fr - 1) (lo - 14) [rv x5, rv (tx G 54)] h51 (fun x59 h58 => xext h51 h58 → ((x59 = 0 → bX5_operated_263 G fr lo x0 x2 x3 x11 2 h58 Q) ∧ (¬ x59 = 0 → bX5_operated_263 G fr lo x0 x2 x3 x11 1 h58 Q))) (fun r h2 => Q (.threw r) h2)) ∧ (¬ x52 = 0 → bX5_operated_263 G fr lo x0 x2 x3 x11 0 h51 Q))) (fun r h2 => Q (.threw r) h2)) ∧ (¬ x45 = 0 → tg h44 x0 = 6 ∧ 1 ≤ fr ∧ 14 ≤ lo ∧ xRi G YX5_isMixed (fr - 1) (lo - 14) [rv x0, rv x2, rv x3] h44 (fun x66 h65 => xext h44 h65 → ((¬ x66 = 0 → 1 ≤ fr ∧ 14 ≤ lo ∧ xRv G YX5_floats (fr - 1) (lo - 14) [rv x0, rv x2, rv x3] h65 (fun h72 => xext h65 h72 → tg h72 (fR h72 x0 1281) = 3 ∧ 1 ≤ fr ∧ 17 ≤ lo ∧ xRi G YX2_put (fr - 1) (lo - 17) [rv (fR h72 x0 1281), .int 29, .int 0, .int 0, .int 0, .int x11] h72 (fun x80 h79 => xext h72 h79 → Q (.returned (some (rv (fR h79 x0 1283)))) h79) (fun r h2 => Q (.threw r) h2)) (fun r h2 => Q (.threw r) h2)) ∧ (x66 = 0 → 1 ≤ fr ∧ 14 ≤ lo ∧ xRr G YX5_fault (fr - 1) (lo - 14) [rv x0, .int 7, .int x11] h65 (fun x87 h86 => xext h65 h86 → (∃ r89, x87 = r89 + 1 ∧ Q (.threw r89) h86)) (fun r h2 => Q (.threw r) h2)))) (fun r h2 => Q (.threw r) h2)))) (fun r h2 => Q (.threw r) h2)) ∧ (¬ x38 = 0 → bX5_operated_116 G fr lo x0 x2 x3 x5 x11 h37 Q))) (fun r h2 => Q (.threw r) h2)))) (fun r h2 => Q (.threw r) h2)) ∧ (¬ x24 = 0 → bX5_operated_34 G fr lo x0 x2 x3 x5 x11 h23 Q))) (fun r h2 => Q (.threw r) h2)))) (fun r h2 => Q (.threw r) h2)) (fun r h2 => Q (.threw r) h2)) (fun r h2 => Q (.threw r) h2)
set_option maxRecDepth 100000 in
theorem uX5_operated {G : xG} {fr lo : Nat} {x0 : Nat} {x1 : Nat} {x2 : Nat} {x3 : Nat} {h : xH} {Q : Outcome → xH → Prop} (hq : bX5_operated G fr lo x0 x1 x2 x3 h Q) : xP G YX5_operated fr lo 0 [(0, rv x0), (1, rv x1), (2, rv x2), (3, rv x3)] [] h Q := by
  unfold bX5_operated at hq
  refine x_aload_n 1 dX5_operated_0 rfl ?_
  obtain ⟨g1, hq⟩ := hq
  obtain ⟨g2, g3, hq⟩ := hq
  refine x_callV (Yc := YX15_text) (as := []) (st := []) q2009 mvX15_text g1 rfl dX5_operated_1 (xle (xal1 (rv_cat _) xal0) (by decide)) (xfr g2) (xlo xsw0 (by decide) g3) (xKr hq (fun x5 h4 hq e6 => ?_) (fun _ _ q _ => q))
  replace hq := hq e6
  refine x_astore (lv' := [(4, rv x5), (0, rv x0), (1, rv x1), (2, rv x2), (3, rv x3)]) dX5_operated_4 (by decide) (by first | rfl | (simp [rv_cat, Value.category]; done) | (simp [rv_cat, Value.category]; decide)) ?_
  refine x_aload_n 2 dX5_operated_6 rfl ?_
  have t7 : tg h4 x1 = 16 := e6.tg g1 (by decide)
  obtain ⟨g8, g9, hq⟩ := hq
  refine x_callV (Yc := YX15_place) (as := []) (st := []) q2013 mvX15_place t7 rfl dX5_operated_7 (xle (xal1 (rv_cat _) xal0) (by decide)) (xfr g8) (xlo xsw0 (by decide) g9) (xKi hq (fun x11 h10 hq e12 => ?_) (fun _ _ q _ => q))
  replace hq := hq e12
  refine x_istore (lv' := [(5, .int x11), (4, rv x5), (0, rv x0), (1, rv x1), (2, rv x2), (3, rv x3)]) dX5_operated_10 (by decide) (by first | rfl | (simp [rv_cat, Value.category]; done) | (simp [rv_cat, Value.category]; decide)) ?_
  refine x_aload 1 dX5_operated_12 rfl ?_
  refine x_ldcwS (n := 0) 127 srX5_837 dX5_operated_14 ?_
  obtain ⟨g13, hq⟩ := hq
  obtain ⟨g14, g15, hq⟩ := hq
  refine x_callV (Yc := YJ5_equals) (as := [rv (tx G 0)]) (st := []) q2086 mvJ5_equals g13 rfl dX5_operated_17 (xle (xal1 (rv_cat _) (xal1 (rv_cat _) xal0)) (by decide)) (xfr g14) (xlo xsw0 (by decide) g15) (xKi hq (fun x17 h16 hq e18 => ?_) (fun _ _ q _ => q))
  replace hq := hq e18
  refine x_if_ne (tgt := 34) dX5_operated_20 (by decide) (fun c19 => ?_) (fun c19 => ?_)
  · replace hq := hq.1 c19
    refine xP.pick (lv' := [(0, rv x0), (2, rv x2), (3, rv x3), (4, rv x5), (5, .int x11)]) [2, 4, 5, 1, 0] rfl ?_
    exact uX5_operated_34 hq
  · replace hq := hq.2 c19
    refine x_aload 1 dX5_operated_23 rfl ?_
    refine x_ldcwS (n := 21) 128 srX5_839 dX5_operated_25 ?_
    have t20 : tg h16 x5 = 31 := e18.tg g13 (by decide)
    obtain ⟨g21, g22, hq⟩ := hq
    refine x_callV (Yc := YJ5_equals) (as := [rv (tx G 21)]) (st := []) q2086 mvJ5_equals t20 rfl dX5_operated_28 (xle (xal1 (rv_cat _) (xal1 (rv_cat _) xal0)) (by decide)) (xfr g21) (xlo xsw0 (by decide) g22) (xKi hq (fun x24 h23 hq e25 => ?_) (fun _ _ q _ => q))
    replace hq := hq e25
    refine x_if_eq (tgt := 94) dX5_operated_31 (by decide) (fun c26 => ?_) (fun c26 => ?_)
    · replace hq := hq.1 c26
      refine x_aload 1 dX5_operated_94 rfl ?_
      refine x_ldcwS (n := 5) 129 srX5_841 dX5_operated_96 ?_
      have t27 : tg h23 x5 = 31 := e25.tg t20 (by decide)
      obtain ⟨g28, g29, hq⟩ := hq
      refine x_callV (Yc := YJ5_equals) (as := [rv (tx G 5)]) (st := []) q2086 mvJ5_equals t27 rfl dX5_operated_99 (xle (xal1 (rv_cat _) (xal1 (rv_cat _) xal0)) (by decide)) (xfr g28) (xlo xsw0 (by decide) g29) (xKi hq (fun x31 h30 hq e32 => ?_) (fun _ _ q _ => q))
      replace hq := hq e32
      refine x_if_ne (tgt := 116) dX5_operated_102 (by decide) (fun c33 => ?_) (fun c33 => ?_)
      · replace hq := hq.1 c33
        refine xP.pick (lv' := [(0, rv x0), (2, rv x2), (3, rv x3), (4, rv x5), (5, .int x11)]) [2, 4, 5, 1, 0] rfl ?_
        exact uX5_operated_116 hq
      · replace hq := hq.2 c33
        refine x_aload 1 dX5_operated_105 rfl ?_
        refine x_ldcwS (n := 17) 130 srX5_843 dX5_operated_107 ?_
        have t34 : tg h30 x5 = 31 := e32.tg t27 (by decide)
        obtain ⟨g35, g36, hq⟩ := hq
        refine x_callV (Yc := YJ5_equals) (as := [rv (tx G 17)]) (st := []) q2086 mvJ5_equals t34 rfl dX5_operated_110 (xle (xal1 (rv_cat _) (xal1 (rv_cat _) xal0)) (by decide)) (xfr g35) (xlo xsw0 (by decide) g36) (xKi hq (fun x38 h37 hq e39 => ?_) (fun _ _ q _ => q))
        replace hq := hq e39
        refine x_if_eq (tgt := 177) dX5_operated_113 (by decide) (fun c40 => ?_) (fun c40 => ?_)
        · replace hq := hq.1 c40
          refine x_aload 1 dX5_operated_177 rfl ?_
          refine x_ldcwS (n := 56) 131 srX5_845 dX5_operated_179 ?_
          have t41 : tg h37 x5 = 31 := e39.tg t34 (by decide)
          obtain ⟨g42, g43, hq⟩ := hq
          refine x_callV (Yc := YJ5_equals) (as := [rv (tx G 56)]) (st := []) q2086 mvJ5_equals t41 rfl dX5_operated_182 (xle (xal1 (rv_cat _) (xal1 (rv_cat _) xal0)) (by decide)) (xfr g42) (xlo xsw0 (by decide) g43) (xKi hq (fun x45 h44 hq e46 => ?_) (fun _ _ q _ => q))
          replace hq := hq e46
          refine x_if_eq (tgt := 232) dX5_operated_185 (by decide) (fun c47 => ?_) (fun c47 => ?_)
          · replace hq := hq.1 c47
            refine x_aload 1 dX5_operated_232 rfl ?_
            refine x_ldcwS (n := 53) 132 srX5_855 dX5_operated_234 ?_
            have t48 : tg h44 x5 = 31 := e46.tg t41 (by decide)
            obtain ⟨g49, g50, hq⟩ := hq
            refine x_callV (Yc := YJ5_equals) (as := [rv (tx G 53)]) (st := []) q2086 mvJ5_equals t48 rfl dX5_operated_237 (xle (xal1 (rv_cat _) (xal1 (rv_cat _) xal0)) (by decide)) (xfr g49) (xlo xsw0 (by decide) g50) (xKi hq (fun x52 h51 hq e53 => ?_) (fun _ _ q _ => q))
            replace hq := hq e53
            refine x_if_eq (tgt := 247) dX5_operated_240 (by decide) (fun c54 => ?_) (fun c54 => ?_)
            · replace hq := hq.1 c54
              refine x_aload 1 dX5_operated_247 rfl ?_
              refine x_ldcwS (n := 54) 126 srX5_259 dX5_operated_249 ?_
              have t55 : tg h51 x5 = 31 := e53.tg t48 (by decide)
              obtain ⟨g56, g57, hq⟩ := hq
              refine x_callV (Yc := YJ5_equals) (as := [rv (tx G 54)]) (st := []) q2086 mvJ5_equals t55 rfl dX5_operated_252 (xle (xal1 (rv_cat _) (xal1 (rv_cat _) xal0)) (by decide)) (xfr g56) (xlo xsw0 (by decide) g57) (xKi hq (fun x59 h58 hq e60 => ?_) (fun _ _ q _ => q))
              replace hq := hq e60
              refine x_if_eq (tgt := 262) dX5_operated_255 (by decide) (fun c61 => ?_) (fun c61 => ?_)
              · replace hq := hq.1 c61
                refine x_iconst (v := 2) dX5_operated_262 (by decide) ?_
                refine xP.pick (lv' := [(0, rv x0), (2, rv x2), (3, rv x3), (5, .int x11)]) [2, 4, 5, 0] rfl ?_
                exact uX5_operated_263 hq
              · replace hq := hq.2 c61
                refine x_iconst (v := 1) dX5_operated_258 (by decide) ?_
                refine x_goto (tgt := 263) dX5_operated_259 (by decide) ?_
                refine xP.pick (lv' := [(0, rv x0), (2, rv x2), (3, rv x3), (5, .int x11)]) [2, 4, 5, 0] rfl ?_
                exact uX5_operated_263 hq
            · replace hq := hq.2 c54
              refine x_iconst (v := 0) dX5_operated_243 (by decide) ?_
              refine x_goto (tgt := 263) dX5_operated_244 (by decide) ?_
              refine xP.pick (lv' := [(0, rv x0), (2, rv x2), (3, rv x3), (5, .int x11)]) [2, 4, 5, 0] rfl ?_
              exact uX5_operated_263 hq
          · replace hq := hq.2 c47
            refine x_aload_n 2 dX5_operated_188 rfl ?_
            refine x_aload_n 4 dX5_operated_189 rfl ?_
            refine x_aload_n 5 dX5_operated_190 rfl ?_
            obtain ⟨g62, hq⟩ := hq
            obtain ⟨g63, g64, hq⟩ := hq
            refine x_callV (Yc := YX5_isMixed) (as := [rv x2, rv x3]) (st := []) q2670 mvX5_isMixed g62 rfl dX5_operated_191 (xle (xal1 (rv_cat _) (xal1 (rv_cat _) (xal1 (rv_cat _) xal0))) (by decide)) (xfr g63) (xlo xsw0 (by decide) g64) (xKi hq (fun x66 h65 hq e67 => ?_) (fun _ _ q _ => q))
            replace hq := hq e67
            refine x_if_ne (tgt := 206) dX5_operated_194 (by decide) (fun c68 => ?_) (fun c68 => ?_)
            · replace hq := hq.1 c68
              refine x_aload_n 2 dX5_operated_206 rfl ?_
              refine x_aload_n 4 dX5_operated_207 rfl ?_
              refine x_aload_n 5 dX5_operated_208 rfl ?_
              have t69 : tg h65 x0 = 6 := e67.tg g62 (by decide)
              obtain ⟨g70, g71, hq⟩ := hq
              refine x_callV (Yc := YX5_floats) (as := [rv x2, rv x3]) (st := []) q2674 mvX5_floats t69 rfl dX5_operated_209 (xle (xal1 (rv_cat _) (xal1 (rv_cat _) (xal1 (rv_cat _) xal0))) (by decide)) (xfr g70) (xlo xsw0 (by decide) g71) (xKv hq (fun h72 hq e74 => ?_) (fun _ _ q _ => q))
              replace hq := hq e74
              refine x_aload_n 2 dX5_operated_212 rfl ?_
              have t75 : tg h72 x0 = 6 := e74.tg t69 (by decide)
              refine x_get (v := rv (fR h72 x0 1281)) fdX5_62 dX5_operated_213 t75 rfl ?_
              refine x_bipush (v := 29) dX5_operated_216 (by decide) ?_
              refine x_iconst (v := 0) dX5_operated_218 (by decide) ?_
              refine x_iconst (v := 0) dX5_operated_219 (by decide) ?_
              refine x_iconst (v := 0) dX5_operated_220 (by decide) ?_
              refine x_iload 0 dX5_operated_221 rfl ?_
              obtain ⟨g76, hq⟩ := hq
              obtain ⟨g77, g78, hq⟩ := hq
              refine x_callV (Yc := YX2_put) (as := [.int 29, .int 0, .int 0, .int 0, .int x11]) (st := []) q2494 mvX2_put g76 rfl dX5_operated_223 (xle (xal1 (rv_cat _) (xal1 rfl (xal1 rfl (xal1 rfl (xal1 rfl (xal1 rfl xal0)))))) (by decide)) (xfr g77) (xlo xsw0 (by decide) g78) (xKi hq (fun x80 h79 hq e81 => ?_) (fun _ _ q _ => q))
              replace hq := hq e81
              refine x_pop dX5_operated_226 rfl ?_
              refine x_aload_n 2 dX5_operated_227 rfl ?_
              have t82 : tg h79 x0 = 6 := e81.tg t75 (by decide)
              refine x_get (v := rv (fR h79 x0 1283)) fdX5_26 dX5_operated_228 t82 rfl ?_
              exact x_aret rfl xty_O dX5_operated_231 hq
            · replace hq := hq.2 c68
              refine x_aload_n 2 dX5_operated_197 rfl ?_
              refine x_bipush (v := 7) dX5_operated_198 (by decide) ?_
              refine x_iload 0 dX5_operated_200 rfl ?_
              have t83 : tg h65 x0 = 6 := e67.tg g62 (by decide)
              obtain ⟨g84, g85, hq⟩ := hq
              refine x_callV (Yc := YX5_fault) (as := [.int 7, .int x11]) (st := []) q2087 mvX5_fault t83 rfl dX5_operated_202 (xle (xal1 (rv_cat _) (xal1 rfl (xal1 rfl xal0))) (by decide)) (xfr g84) (xlo xsw0 (by decide) g85) (xKr hq (fun x87 h86 hq e88 => ?_) (fun _ _ q _ => q))
              replace hq := hq e88
              obtain ⟨r89, g90, hq⟩ := hq
              rw [g90]
              exact x_athrow dX5_operated_205 hq
        · replace hq := hq.2 c40
          refine xP.pick (lv' := [(0, rv x0), (2, rv x2), (3, rv x3), (4, rv x5), (5, .int x11)]) [2, 4, 5, 1, 0] rfl ?_
          exact uX5_operated_116 hq
    · replace hq := hq.2 c26
      refine xP.pick (lv' := [(0, rv x0), (2, rv x2), (3, rv x3), (4, rv x5), (5, .int x11)]) [2, 4, 5, 1, 0] rfl ?_
      exact uX5_operated_34 hq
theorem rX5_operated {G : xG} {fr lo : Nat} {x0 : Nat} {x1 : Nat} {x2 : Nat} {x3 : Nat} {h : xH} {Q : Outcome → xH → Prop} (hq : bX5_operated G fr lo x0 x1 x2 x3 h Q) : xR G YX5_operated fr lo [rv x0, rv x1, rv x2, rv x3] h Q := by
  show xP _ _ _ _ _ (lv_args 0 _) _ _ _
  rw [show lv_args 0 [rv x0, rv x1, rv x2, rv x3] = [(0, rv x0), (1, rv x1), (2, rv x2), (3, rv x3)] from (xla1 (rv_cat _) (xla1 (rv_cat _) (xla1 (rv_cat _) (xla1 (rv_cat _) xla0))))]
  exact uX5_operated hq
set_option maxRecDepth 100000 in
theorem dX5_isMixed_0 : decode cX5_isMixed 0 = .ok (.aload_n 1, 1) := by decide +kernel
set_option maxRecDepth 100000 in
theorem dX5_isMixed_1 : decode cX5_isMixed 1 = .ok (.invokevirtual 255, 3) := by decide +kernel
set_option maxRecDepth 100000 in
theorem dX5_isMixed_4 : decode cX5_isMixed 4 = .ok (.ifCond .eq 14, 3) := by decide +kernel
set_option maxRecDepth 100000 in
theorem dX5_isMixed_7 : decode cX5_isMixed 7 = .ok (.aload_n 2, 1) := by decide +kernel
set_option maxRecDepth 100000 in
theorem dX5_isMixed_8 : decode cX5_isMixed 8 = .ok (.invokevirtual 255, 3) := by decide +kernel
set_option maxRecDepth 100000 in
theorem dX5_isMixed_11 : decode cX5_isMixed 11 = .ok (.ifCond .eq 7, 3) := by decide +kernel
set_option maxRecDepth 100000 in
theorem dX5_isMixed_14 : decode cX5_isMixed 14 = .ok (.iconst 1, 1) := by decide +kernel
set_option maxRecDepth 100000 in
theorem dX5_isMixed_15 : decode cX5_isMixed 15 = .ok (.goto 4, 3) := by decide +kernel
set_option maxRecDepth 100000 in
theorem dX5_isMixed_18 : decode cX5_isMixed 18 = .ok (.iconst 0, 1) := by decide +kernel
set_option maxRecDepth 100000 in
theorem dX5_isMixed_19 : decode cX5_isMixed 19 = .ok (.ireturn, 1) := by decide +kernel
set_option maxRecDepth 100000 in
def bX5_isMixed_19 (G : xG) (fr lo : Nat) (s0 : Int32) (h : xH) (Q : Outcome → xH → Prop) : Prop := xbz s0 ∧ Q (.returned (some (.int s0))) h
set_option maxRecDepth 100000 in
theorem uX5_isMixed_19 {G : xG} {fr lo : Nat} {s0 : Int32} {h : xH} {Q : Outcome → xH → Prop} (hq : bX5_isMixed_19 G fr lo s0 h Q) : xP G YX5_isMixed fr lo 19 [] [.int s0] h Q := by
  unfold bX5_isMixed_19 at hq
  obtain ⟨g1, hq⟩ := hq
  exact x_iret rfl (xnZ g1) dX5_isMixed_19 hq
set_option maxRecDepth 100000 in
def bX5_isMixed_18 (G : xG) (fr lo : Nat) (h : xH) (Q : Outcome → xH → Prop) : Prop := bX5_isMixed_19 G fr lo 0 h Q
set_option maxRecDepth 100000 in
theorem uX5_isMixed_18 {G : xG} {fr lo : Nat} {h : xH} {Q : Outcome → xH → Prop} (hq : bX5_isMixed_18 G fr lo h Q) : xP G YX5_isMixed fr lo 18 [] [] h Q := by
  unfold bX5_isMixed_18 at hq
  refine x_iconst (v := 0) dX5_isMixed_18 (by decide) ?_
  exact uX5_isMixed_19 hq
set_option maxRecDepth 100000 in
def bX5_isMixed (G : xG) (fr lo : Nat) (x0 : Nat) (x1 : Nat) (x2 : Nat) (h : xH) (Q : Outcome → xH → Prop) : Prop := tg h x1 = 7 ∧ 1 ≤ fr ∧ 12 ≤ lo ∧ xRi G YX6_isNumber (fr - 1) (lo - 12) [rv x1] h (fun x5 h4 => xext h h4 → ((x5 = 0 → bX5_isMixed_18 G fr lo h4 Q) ∧ (¬ x5 = 0 → tg h4 x2 = 7 ∧ 1 ≤ fr ∧ 12 ≤ lo ∧ xRi G YX6_isNumber (fr - 1) (lo - 12) [rv x2] h4 (fun x12 h11 => xext h4 h11 → ((x12 = 0 → bX5_isMixed_18 G fr lo h11 Q) ∧ (¬ x12 = 0 → bX5_isMixed_19 G fr lo 1 h11 Q))) (fun r h2 => Q (.threw r) h2)))) (fun r h2 => Q (.threw r) h2)
set_option maxRecDepth 100000 in
theorem uX5_isMixed {G : xG} {fr lo : Nat} {x0 : Nat} {x1 : Nat} {x2 : Nat} {h : xH} {Q : Outcome → xH → Prop} (hq : bX5_isMixed G fr lo x0 x1 x2 h Q) : xP G YX5_isMixed fr lo 0 [(0, rv x0), (1, rv x1), (2, rv x2)] [] h Q := by
  unfold bX5_isMixed at hq
  refine x_aload_n 1 dX5_isMixed_0 rfl ?_
  obtain ⟨g1, hq⟩ := hq
  obtain ⟨g2, g3, hq⟩ := hq
  refine x_callV (Yc := YX6_isNumber) (as := []) (st := []) q2258 mvX6_isNumber g1 rfl dX5_isMixed_1 (xle (xal1 (rv_cat _) xal0) (by decide)) (xfr g2) (xlo xsw0 (by decide) g3) (xKi hq (fun x5 h4 hq e6 => ?_) (fun _ _ q _ => q))
  replace hq := hq e6
  refine x_if_eq (tgt := 18) dX5_isMixed_4 (by decide) (fun c7 => ?_) (fun c7 => ?_)
  · replace hq := hq.1 c7
    refine xP.pick (lv' := []) [] rfl ?_
    exact uX5_isMixed_18 hq
  · replace hq := hq.2 c7
    refine x_aload_n 2 dX5_isMixed_7 rfl ?_
    obtain ⟨g8, hq⟩ := hq
    obtain ⟨g9, g10, hq⟩ := hq
    refine x_callV (Yc := YX6_isNumber) (as := []) (st := []) q2258 mvX6_isNumber g8 rfl dX5_isMixed_8 (xle (xal1 (rv_cat _) xal0) (by decide)) (xfr g9) (xlo xsw0 (by decide) g10) (xKi hq (fun x12 h11 hq e13 => ?_) (fun _ _ q _ => q))
    replace hq := hq e13
    refine x_if_eq (tgt := 18) dX5_isMixed_11 (by decide) (fun c14 => ?_) (fun c14 => ?_)
    · replace hq := hq.1 c14
      refine xP.pick (lv' := []) [] rfl ?_
      exact uX5_isMixed_18 hq
    · replace hq := hq.2 c14
      refine x_iconst (v := 1) dX5_isMixed_14 (by decide) ?_
      refine x_goto (tgt := 19) dX5_isMixed_15 (by decide) ?_
      refine xP.pick (lv' := []) [] rfl ?_
      exact uX5_isMixed_19 hq
theorem rX5_isMixed {G : xG} {fr lo : Nat} {x0 : Nat} {x1 : Nat} {x2 : Nat} {h : xH} {Q : Outcome → xH → Prop} (hq : bX5_isMixed G fr lo x0 x1 x2 h Q) : xR G YX5_isMixed fr lo [rv x0, rv x1, rv x2] h Q := by
  show xP _ _ _ _ _ (lv_args 0 _) _ _ _
  rw [show lv_args 0 [rv x0, rv x1, rv x2] = [(0, rv x0), (1, rv x1), (2, rv x2)] from (xla1 (rv_cat _) (xla1 (rv_cat _) (xla1 (rv_cat _) xla0)))]
  exact uX5_isMixed hq
set_option maxRecDepth 100000 in
theorem dX5_floats_0 : decode cX5_floats 0 = .ok (.aload_n 1, 1) := by decide +kernel
set_option maxRecDepth 100000 in
theorem dX5_floats_1 : decode cX5_floats 1 = .ok (.aload_n 0, 1) := by decide +kernel
set_option maxRecDepth 100000 in
theorem dX5_floats_2 : decode cX5_floats 2 = .ok (.getfield 20, 3) := by decide +kernel
set_option maxRecDepth 100000 in
theorem dX5_floats_5 : decode cX5_floats 5 = .ok (.if_acmp .ne 17, 3) := by decide +kernel
set_option maxRecDepth 100000 in
theorem dX5_floats_8 : decode cX5_floats 8 = .ok (.aload_n 0, 1) := by decide +kernel
set_option maxRecDepth 100000 in
theorem dX5_floats_9 : decode cX5_floats 9 = .ok (.getfield 62, 3) := by decide +kernel
set_option maxRecDepth 100000 in
theorem dX5_floats_12 : decode cX5_floats 12 = .ok (.bipush 32, 2) := by decide +kernel
set_option maxRecDepth 100000 in
theorem dX5_floats_14 : decode cX5_floats 14 = .ok (.iconst 0, 1) := by decide +kernel
set_option maxRecDepth 100000 in
theorem dX5_floats_15 : decode cX5_floats 15 = .ok (.iconst 0, 1) := by decide +kernel
set_option maxRecDepth 100000 in
theorem dX5_floats_16 : decode cX5_floats 16 = .ok (.iconst 0, 1) := by decide +kernel
set_option maxRecDepth 100000 in
theorem dX5_floats_17 : decode cX5_floats 17 = .ok (.iconst 0, 1) := by decide +kernel
set_option maxRecDepth 100000 in
theorem dX5_floats_18 : decode cX5_floats 18 = .ok (.invokevirtual 506, 3) := by decide +kernel
set_option maxRecDepth 100000 in
theorem dX5_floats_21 : decode cX5_floats 21 = .ok (.pop, 1) := by decide +kernel
set_option maxRecDepth 100000 in
theorem dX5_floats_22 : decode cX5_floats 22 = .ok (.aload_n 2, 1) := by decide +kernel
set_option maxRecDepth 100000 in
theorem dX5_floats_23 : decode cX5_floats 23 = .ok (.aload_n 0, 1) := by decide +kernel
set_option maxRecDepth 100000 in
theorem dX5_floats_24 : decode cX5_floats 24 = .ok (.getfield 20, 3) := by decide +kernel
set_option maxRecDepth 100000 in
theorem dX5_floats_27 : decode cX5_floats 27 = .ok (.if_acmp .ne 17, 3) := by decide +kernel
set_option maxRecDepth 100000 in
theorem dX5_floats_30 : decode cX5_floats 30 = .ok (.aload_n 0, 1) := by decide +kernel
set_option maxRecDepth 100000 in
theorem dX5_floats_31 : decode cX5_floats 31 = .ok (.getfield 62, 3) := by decide +kernel
set_option maxRecDepth 100000 in
theorem dX5_floats_34 : decode cX5_floats 34 = .ok (.bipush 31, 2) := by decide +kernel
set_option maxRecDepth 100000 in
theorem dX5_floats_36 : decode cX5_floats 36 = .ok (.iconst 0, 1) := by decide +kernel
set_option maxRecDepth 100000 in
theorem dX5_floats_37 : decode cX5_floats 37 = .ok (.iconst 0, 1) := by decide +kernel
set_option maxRecDepth 100000 in
theorem dX5_floats_38 : decode cX5_floats 38 = .ok (.iconst 0, 1) := by decide +kernel
set_option maxRecDepth 100000 in
theorem dX5_floats_39 : decode cX5_floats 39 = .ok (.iconst 0, 1) := by decide +kernel
set_option maxRecDepth 100000 in
theorem dX5_floats_40 : decode cX5_floats 40 = .ok (.invokevirtual 506, 3) := by decide +kernel
set_option maxRecDepth 100000 in
theorem dX5_floats_43 : decode cX5_floats 43 = .ok (.pop, 1) := by decide +kernel
set_option maxRecDepth 100000 in
theorem dX5_floats_44 : decode cX5_floats 44 = .ok (.return_, 1) := by decide +kernel
set_option maxRecDepth 100000 in
def bX5_floats_44 (G : xG) (fr lo : Nat) (h : xH) (Q : Outcome → xH → Prop) : Prop := Q (.returned none) h
set_option maxRecDepth 100000 in
theorem uX5_floats_44 {G : xG} {fr lo : Nat} {h : xH} {Q : Outcome → xH → Prop} (hq : bX5_floats_44 G fr lo h Q) : xP G YX5_floats fr lo 44 [] [] h Q := by
  unfold bX5_floats_44 at hq
  exact x_vret rfl dX5_floats_44 hq
set_option maxRecDepth 100000 in
def bX5_floats_22 (G : xG) (fr lo : Nat) (x0 : Nat) (x2 : Nat) (h : xH) (Q : Outcome → xH → Prop) : Prop := tg h x0 = 6 ∧ ((¬ x2 = (fR h x0 1282) → bX5_floats_44 G fr lo h Q) ∧ (x2 = (fR h x0 1282) → tg h (fR h x0 1281) = 3 ∧ 1 ≤ fr ∧ 17 ≤ lo ∧ xRi G YX2_put (fr - 1) (lo - 17) [rv (fR h x0 1281), .int 31, .int 0, .int 0, .int 0, .int 0] h (fun x7 h6 => xext h h6 → bX5_floats_44 G fr lo h6 Q) (fun r h2 => Q (.threw r) h2)))
set_option maxRecDepth 100000 in
theorem uX5_floats_22 {G : xG} {fr lo : Nat} {x0 : Nat} {x2 : Nat} {h : xH} {Q : Outcome → xH → Prop} (hq : bX5_floats_22 G fr lo x0 x2 h Q) : xP G YX5_floats fr lo 22 [(0, rv x0), (2, rv x2)] [] h Q := by
  unfold bX5_floats_22 at hq
  refine x_aload_n 1 dX5_floats_22 rfl ?_
  refine x_aload_n 0 dX5_floats_23 rfl ?_
  obtain ⟨g1, hq⟩ := hq
  refine x_get (v := rv (fR h x0 1282)) fdX5_20 dX5_floats_24 g1 rfl ?_
  refine x_acmp_ne (tgt := 44) dX5_floats_27 (by decide) (fun c2 => ?_) (fun c2 => ?_)
  · replace hq := hq.1 c2
    refine xP.pick (lv' := []) [] rfl ?_
    exact uX5_floats_44 hq
  · replace hq := hq.2 c2
    refine x_aload_n 0 dX5_floats_30 rfl ?_
    refine x_get (v := rv (fR h x0 1281)) fdX5_62 dX5_floats_31 g1 rfl ?_
    refine x_bipush (v := 31) dX5_floats_34 (by decide) ?_
    refine x_iconst (v := 0) dX5_floats_36 (by decide) ?_
    refine x_iconst (v := 0) dX5_floats_37 (by decide) ?_
    refine x_iconst (v := 0) dX5_floats_38 (by decide) ?_
    refine x_iconst (v := 0) dX5_floats_39 (by decide) ?_
    obtain ⟨g3, hq⟩ := hq
    obtain ⟨g4, g5, hq⟩ := hq
    refine x_callV (Yc := YX2_put) (as := [.int 31, .int 0, .int 0, .int 0, .int 0]) (st := []) q2494 mvX2_put g3 rfl dX5_floats_40 (xle (xal1 (rv_cat _) (xal1 rfl (xal1 rfl (xal1 rfl (xal1 rfl (xal1 rfl xal0)))))) (by decide)) (xfr g4) (xlo xsw0 (by decide) g5) (xKi hq (fun x7 h6 hq e8 => ?_) (fun _ _ q _ => q))
    replace hq := hq e8
    refine x_pop dX5_floats_43 rfl ?_
    refine xP.pick (lv' := []) [] rfl ?_
    exact uX5_floats_44 hq
set_option maxRecDepth 100000 in
def bX5_floats (G : xG) (fr lo : Nat) (x0 : Nat) (x1 : Nat) (x2 : Nat) (h : xH) (Q : Outcome → xH → Prop) : Prop := tg h x0 = 6 ∧ ((¬ x1 = (fR h x0 1282) → bX5_floats_22 G fr lo x0 x2 h Q) ∧ (x1 = (fR h x0 1282) → tg h (fR h x0 1281) = 3 ∧ 1 ≤ fr ∧ 17 ≤ lo ∧ xRi G YX2_put (fr - 1) (lo - 17) [rv (fR h x0 1281), .int 32, .int 0, .int 0, .int 0, .int 0] h (fun x7 h6 => xext h h6 → bX5_floats_22 G fr lo x0 x2 h6 Q) (fun r h2 => Q (.threw r) h2)))
set_option maxRecDepth 100000 in
theorem uX5_floats {G : xG} {fr lo : Nat} {x0 : Nat} {x1 : Nat} {x2 : Nat} {h : xH} {Q : Outcome → xH → Prop} (hq : bX5_floats G fr lo x0 x1 x2 h Q) : xP G YX5_floats fr lo 0 [(0, rv x0), (1, rv x1), (2, rv x2)] [] h Q := by
  unfold bX5_floats at hq
  refine x_aload_n 1 dX5_floats_0 rfl ?_
  refine x_aload_n 0 dX5_floats_1 rfl ?_
  obtain ⟨g1, hq⟩ := hq
  refine x_get (v := rv (fR h x0 1282)) fdX5_20 dX5_floats_2 g1 rfl ?_
  refine x_acmp_ne (tgt := 22) dX5_floats_5 (by decide) (fun c2 => ?_) (fun c2 => ?_)
  · replace hq := hq.1 c2
    refine xP.pick (lv' := [(0, rv x0), (2, rv x2)]) [0, 2] rfl ?_
    exact uX5_floats_22 hq
  · replace hq := hq.2 c2
    refine x_aload_n 0 dX5_floats_8 rfl ?_
    refine x_get (v := rv (fR h x0 1281)) fdX5_62 dX5_floats_9 g1 rfl ?_
    refine x_bipush (v := 32) dX5_floats_12 (by decide) ?_
    refine x_iconst (v := 0) dX5_floats_14 (by decide) ?_
    refine x_iconst (v := 0) dX5_floats_15 (by decide) ?_
    refine x_iconst (v := 0) dX5_floats_16 (by decide) ?_
    refine x_iconst (v := 0) dX5_floats_17 (by decide) ?_
    obtain ⟨g3, hq⟩ := hq
    obtain ⟨g4, g5, hq⟩ := hq
    refine x_callV (Yc := YX2_put) (as := [.int 32, .int 0, .int 0, .int 0, .int 0]) (st := []) q2494 mvX2_put g3 rfl dX5_floats_18 (xle (xal1 (rv_cat _) (xal1 rfl (xal1 rfl (xal1 rfl (xal1 rfl (xal1 rfl xal0)))))) (by decide)) (xfr g4) (xlo xsw0 (by decide) g5) (xKi hq (fun x7 h6 hq e8 => ?_) (fun _ _ q _ => q))
    replace hq := hq e8
    refine x_pop dX5_floats_21 rfl ?_
    refine xP.pick (lv' := [(0, rv x0), (2, rv x2)]) [0, 2] rfl ?_
    exact uX5_floats_22 hq
theorem rX5_floats {G : xG} {fr lo : Nat} {x0 : Nat} {x1 : Nat} {x2 : Nat} {h : xH} {Q : Outcome → xH → Prop} (hq : bX5_floats G fr lo x0 x1 x2 h Q) : xR G YX5_floats fr lo [rv x0, rv x1, rv x2] h Q := by
  show xP _ _ _ _ _ (lv_args 0 _) _ _ _
  rw [show lv_args 0 [rv x0, rv x1, rv x2] = [(0, rv x0), (1, rv x1), (2, rv x2)] from (xla1 (rv_cat _) (xla1 (rv_cat _) (xla1 (rv_cat _) xla0)))]
  exact uX5_floats hq
