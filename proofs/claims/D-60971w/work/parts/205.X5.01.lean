/-! PascalHouse$Compiler, walked (2) -/
set_option maxRecDepth 100000 in
theorem dX5_variants_0 : decode cX5_variants 0 = .ok (.aload_n 2, 1) := by decide +kernel
set_option maxRecDepth 100000 in
theorem dX5_variants_1 : decode cX5_variants 1 = .ok (.getfield 251, 3) := by decide +kernel
set_option maxRecDepth 100000 in
theorem dX5_variants_4 : decode cX5_variants 4 = .ok (.getfield 264, 3) := by decide +kernel
set_option maxRecDepth 100000 in
theorem dX5_variants_7 : decode cX5_variants 7 = .ok (.bipush 15, 2) := by decide +kernel
set_option maxRecDepth 100000 in
theorem dX5_variants_9 : decode cX5_variants 9 = .ok (.if_icmp .ne 7, 3) := by decide +kernel
set_option maxRecDepth 100000 in
theorem dX5_variants_12 : decode cX5_variants 12 = .ok (.iconst 1, 1) := by decide +kernel
set_option maxRecDepth 100000 in
theorem dX5_variants_13 : decode cX5_variants 13 = .ok (.goto 4, 3) := by decide +kernel
set_option maxRecDepth 100000 in
theorem dX5_variants_16 : decode cX5_variants 16 = .ok (.iconst 0, 1) := by decide +kernel
set_option maxRecDepth 100000 in
theorem dX5_variants_17 : decode cX5_variants 17 = .ok (.istore 5, 2) := by decide +kernel
set_option maxRecDepth 100000 in
theorem dX5_variants_19 : decode cX5_variants 19 = .ok (.iload 5, 2) := by decide +kernel
set_option maxRecDepth 100000 in
theorem dX5_variants_21 : decode cX5_variants 21 = .ok (.ifCond .eq 13, 3) := by decide +kernel
set_option maxRecDepth 100000 in
theorem dX5_variants_24 : decode cX5_variants 24 = .ok (.aload_n 2, 1) := by decide +kernel
set_option maxRecDepth 100000 in
theorem dX5_variants_25 : decode cX5_variants 25 = .ok (.getfield 251, 3) := by decide +kernel
set_option maxRecDepth 100000 in
theorem dX5_variants_28 : decode cX5_variants 28 = .ok (.getfield 307, 3) := by decide +kernel
set_option maxRecDepth 100000 in
theorem dX5_variants_31 : decode cX5_variants 31 = .ok (.goto 7, 3) := by decide +kernel
set_option maxRecDepth 100000 in
theorem dX5_variants_34 : decode cX5_variants 34 = .ok (.aload_n 2, 1) := by decide +kernel
set_option maxRecDepth 100000 in
theorem dX5_variants_35 : decode cX5_variants 35 = .ok (.getfield 251, 3) := by decide +kernel
set_option maxRecDepth 100000 in
theorem dX5_variants_38 : decode cX5_variants 38 = .ok (.astore 6, 2) := by decide +kernel
set_option maxRecDepth 100000 in
theorem dX5_variants_40 : decode cX5_variants 40 = .ok (.new 374, 3) := by decide +kernel
set_option maxRecDepth 100000 in
theorem dX5_variants_43 : decode cX5_variants 43 = .ok (.dup, 1) := by decide +kernel
set_option maxRecDepth 100000 in
theorem dX5_variants_44 : decode cX5_variants 44 = .ok (.aload_n 3, 1) := by decide +kernel
set_option maxRecDepth 100000 in
theorem dX5_variants_45 : decode cX5_variants 45 = .ok (.iload 4, 2) := by decide +kernel
set_option maxRecDepth 100000 in
theorem dX5_variants_47 : decode cX5_variants 47 = .ok (.aload_n 1, 1) := by decide +kernel
set_option maxRecDepth 100000 in
theorem dX5_variants_48 : decode cX5_variants 48 = .ok (.getfield 66, 3) := by decide +kernel
set_option maxRecDepth 100000 in
theorem dX5_variants_51 : decode cX5_variants 51 = .ok (.invokespecial 376, 3) := by decide +kernel
set_option maxRecDepth 100000 in
theorem dX5_variants_54 : decode cX5_variants 54 = .ok (.astore 7, 2) := by decide +kernel
set_option maxRecDepth 100000 in
theorem dX5_variants_56 : decode cX5_variants 56 = .ok (.aload 7, 2) := by decide +kernel
set_option maxRecDepth 100000 in
theorem dX5_variants_58 : decode cX5_variants 58 = .ok (.aload_n 0, 1) := by decide +kernel
set_option maxRecDepth 100000 in
theorem dX5_variants_59 : decode cX5_variants 59 = .ok (.aload 6, 2) := by decide +kernel
set_option maxRecDepth 100000 in
theorem dX5_variants_61 : decode cX5_variants 61 = .ok (.invokevirtual 265, 3) := by decide +kernel
set_option maxRecDepth 100000 in
theorem dX5_variants_64 : decode cX5_variants 64 = .ok (.putfield 379, 3) := by decide +kernel
set_option maxRecDepth 100000 in
theorem dX5_variants_67 : decode cX5_variants 67 = .ok (.aload 7, 2) := by decide +kernel
set_option maxRecDepth 100000 in
theorem dX5_variants_69 : decode cX5_variants 69 = .ok (.iload 5, 2) := by decide +kernel
set_option maxRecDepth 100000 in
theorem dX5_variants_71 : decode cX5_variants 71 = .ok (.putfield 380, 3) := by decide +kernel
set_option maxRecDepth 100000 in
theorem dX5_variants_74 : decode cX5_variants 74 = .ok (.aload 7, 2) := by decide +kernel
set_option maxRecDepth 100000 in
theorem dX5_variants_76 : decode cX5_variants 76 = .ok (.getfield 379, 3) := by decide +kernel
set_option maxRecDepth 100000 in
theorem dX5_variants_79 : decode cX5_variants 79 = .ok (.invokevirtual 318, 3) := by decide +kernel
set_option maxRecDepth 100000 in
theorem dX5_variants_82 : decode cX5_variants 82 = .ok (.ifCond .ne 15, 3) := by decide +kernel
set_option maxRecDepth 100000 in
theorem dX5_variants_85 : decode cX5_variants 85 = .ok (.aload_n 0, 1) := by decide +kernel
set_option maxRecDepth 100000 in
theorem dX5_variants_86 : decode cX5_variants 86 = .ok (.bipush 7, 2) := by decide +kernel
set_option maxRecDepth 100000 in
theorem dX5_variants_88 : decode cX5_variants 88 = .ok (.aload 6, 2) := by decide +kernel
set_option maxRecDepth 100000 in
theorem dX5_variants_90 : decode cX5_variants 90 = .ok (.invokevirtual 192, 3) := by decide +kernel
set_option maxRecDepth 100000 in
theorem dX5_variants_93 : decode cX5_variants 93 = .ok (.invokevirtual 163, 3) := by decide +kernel
set_option maxRecDepth 100000 in
theorem dX5_variants_96 : decode cX5_variants 96 = .ok (.athrow, 1) := by decide +kernel
set_option maxRecDepth 100000 in
theorem dX5_variants_97 : decode cX5_variants 97 = .ok (.iload 5, 2) := by decide +kernel
set_option maxRecDepth 100000 in
theorem dX5_variants_99 : decode cX5_variants 99 = .ok (.ifCond .eq 28, 3) := by decide +kernel
set_option maxRecDepth 100000 in
theorem dX5_variants_102 : decode cX5_variants 102 = .ok (.aload_n 0, 1) := by decide +kernel
set_option maxRecDepth 100000 in
theorem dX5_variants_103 : decode cX5_variants 103 = .ok (.aload_n 1, 1) := by decide +kernel
set_option maxRecDepth 100000 in
theorem dX5_variants_104 : decode cX5_variants 104 = .ok (.aload_n 2, 1) := by decide +kernel
set_option maxRecDepth 100000 in
theorem dX5_variants_105 : decode cX5_variants 105 = .ok (.getfield 251, 3) := by decide +kernel
set_option maxRecDepth 100000 in
theorem dX5_variants_108 : decode cX5_variants 108 = .ok (.aload 7, 2) := by decide +kernel
set_option maxRecDepth 100000 in
theorem dX5_variants_110 : decode cX5_variants 110 = .ok (.getfield 379, 3) := by decide +kernel
set_option maxRecDepth 100000 in
theorem dX5_variants_113 : decode cX5_variants 113 = .ok (.aload_n 3, 1) := by decide +kernel
set_option maxRecDepth 100000 in
theorem dX5_variants_114 : decode cX5_variants 114 = .ok (.iload 4, 2) := by decide +kernel
set_option maxRecDepth 100000 in
theorem dX5_variants_116 : decode cX5_variants 116 = .ok (.invokevirtual 361, 3) := by decide +kernel
set_option maxRecDepth 100000 in
theorem dX5_variants_119 : decode cX5_variants 119 = .ok (.aload 7, 2) := by decide +kernel
set_option maxRecDepth 100000 in
theorem dX5_variants_121 : decode cX5_variants 121 = .ok (.putfield 383, 3) := by decide +kernel
set_option maxRecDepth 100000 in
theorem dX5_variants_124 : decode cX5_variants 124 = .ok (.goto 9, 3) := by decide +kernel
set_option maxRecDepth 100000 in
theorem dX5_variants_127 : decode cX5_variants 127 = .ok (.aload_n 0, 1) := by decide +kernel
set_option maxRecDepth 100000 in
theorem dX5_variants_128 : decode cX5_variants 128 = .ok (.aload_n 1, 1) := by decide +kernel
set_option maxRecDepth 100000 in
theorem dX5_variants_129 : decode cX5_variants 129 = .ok (.iconst 1, 1) := by decide +kernel
set_option maxRecDepth 100000 in
theorem dX5_variants_130 : decode cX5_variants 130 = .ok (.invokevirtual 369, 3) := by decide +kernel
set_option maxRecDepth 100000 in
theorem dX5_variants_133 : decode cX5_variants 133 = .ok (.aload 7, 2) := by decide +kernel
set_option maxRecDepth 100000 in
theorem dX5_variants_135 : decode cX5_variants 135 = .ok (.aload_n 1, 1) := by decide +kernel
set_option maxRecDepth 100000 in
theorem dX5_variants_136 : decode cX5_variants 136 = .ok (.getfield 66, 3) := by decide +kernel
set_option maxRecDepth 100000 in
theorem dX5_variants_139 : decode cX5_variants 139 = .ok (.putfield 387, 3) := by decide +kernel
set_option maxRecDepth 100000 in
theorem dX5_variants_142 : decode cX5_variants 142 = .ok (.aload_n 0, 1) := by decide +kernel
set_option maxRecDepth 100000 in
theorem dX5_variants_143 : decode cX5_variants 143 = .ok (.getfield 62, 3) := by decide +kernel
set_option maxRecDepth 100000 in
theorem dX5_variants_146 : decode cX5_variants 146 = .ok (.getfield 390, 3) := by decide +kernel
set_option maxRecDepth 100000 in
theorem dX5_variants_149 : decode cX5_variants 149 = .ok (.aload 7, 2) := by decide +kernel
set_option maxRecDepth 100000 in
theorem dX5_variants_151 : decode cX5_variants 151 = .ok (.invokevirtual 120, 3) := by decide +kernel
set_option maxRecDepth 100000 in
theorem dX5_variants_154 : decode cX5_variants 154 = .ok (.pop, 1) := by decide +kernel
set_option maxRecDepth 100000 in
theorem dX5_variants_155 : decode cX5_variants 155 = .ok (.iconst 0, 1) := by decide +kernel
set_option maxRecDepth 100000 in
theorem dX5_variants_156 : decode cX5_variants 156 = .ok (.istore 8, 2) := by decide +kernel
set_option maxRecDepth 100000 in
theorem dX5_variants_158 : decode cX5_variants 158 = .ok (.aload 6, 2) := by decide +kernel
set_option maxRecDepth 100000 in
theorem dX5_variants_160 : decode cX5_variants 160 = .ok (.getfield 307, 3) := by decide +kernel
set_option maxRecDepth 100000 in
theorem dX5_variants_163 : decode cX5_variants 163 = .ok (.astore 9, 2) := by decide +kernel
set_option maxRecDepth 100000 in
theorem dX5_variants_165 : decode cX5_variants 165 = .ok (.aload 9, 2) := by decide +kernel
set_option maxRecDepth 100000 in
theorem dX5_variants_167 : decode cX5_variants 167 = .ok (.ifnull 137, 3) := by decide +kernel
set_option maxRecDepth 100000 in
theorem dX5_variants_170 : decode cX5_variants 170 = .ok (.aload 9, 2) := by decide +kernel
set_option maxRecDepth 100000 in
theorem dX5_variants_172 : decode cX5_variants 172 = .ok (.getfield 251, 3) := by decide +kernel
set_option maxRecDepth 100000 in
theorem dX5_variants_175 : decode cX5_variants 175 = .ok (.getfield 251, 3) := by decide +kernel
set_option maxRecDepth 100000 in
theorem dX5_variants_178 : decode cX5_variants 178 = .ok (.astore 10, 2) := by decide +kernel
set_option maxRecDepth 100000 in
theorem dX5_variants_180 : decode cX5_variants 180 = .ok (.aload 10, 2) := by decide +kernel
set_option maxRecDepth 100000 in
theorem dX5_variants_182 : decode cX5_variants 182 = .ok (.ifnull 94, 3) := by decide +kernel
set_option maxRecDepth 100000 in
theorem dX5_variants_185 : decode cX5_variants 185 = .ok (.aload_n 0, 1) := by decide +kernel
set_option maxRecDepth 100000 in
theorem dX5_variants_186 : decode cX5_variants 186 = .ok (.aload 10, 2) := by decide +kernel
set_option maxRecDepth 100000 in
theorem dX5_variants_188 : decode cX5_variants 188 = .ok (.invokevirtual 314, 3) := by decide +kernel
set_option maxRecDepth 100000 in
theorem dX5_variants_191 : decode cX5_variants 191 = .ok (.aload_n 0, 1) := by decide +kernel
set_option maxRecDepth 100000 in
theorem dX5_variants_192 : decode cX5_variants 192 = .ok (.getfield 216, 3) := by decide +kernel
set_option maxRecDepth 100000 in
theorem dX5_variants_195 : decode cX5_variants 195 = .ok (.invokevirtual 318, 3) := by decide +kernel
set_option maxRecDepth 100000 in
theorem dX5_variants_198 : decode cX5_variants 198 = .ok (.ifCond .eq 18, 3) := by decide +kernel
set_option maxRecDepth 100000 in
theorem dX5_variants_201 : decode cX5_variants 201 = .ok (.aload_n 0, 1) := by decide +kernel
set_option maxRecDepth 100000 in
theorem dX5_variants_202 : decode cX5_variants 202 = .ok (.getfield 216, 3) := by decide +kernel
set_option maxRecDepth 100000 in
theorem dX5_variants_205 : decode cX5_variants 205 = .ok (.aload 7, 2) := by decide +kernel
set_option maxRecDepth 100000 in
theorem dX5_variants_207 : decode cX5_variants 207 = .ok (.getfield 379, 3) := by decide +kernel
set_option maxRecDepth 100000 in
theorem dX5_variants_210 : decode cX5_variants 210 = .ok (.invokevirtual 393, 3) := by decide +kernel
set_option maxRecDepth 100000 in
theorem dX5_variants_213 : decode cX5_variants 213 = .ok (.if_acmp .eq 16, 3) := by decide +kernel
set_option maxRecDepth 100000 in
theorem dX5_variants_216 : decode cX5_variants 216 = .ok (.aload_n 0, 1) := by decide +kernel
set_option maxRecDepth 100000 in
theorem dX5_variants_217 : decode cX5_variants 217 = .ok (.bipush 7, 2) := by decide +kernel
set_option maxRecDepth 100000 in
theorem dX5_variants_219 : decode cX5_variants 219 = .ok (.aload_n 0, 1) := by decide +kernel
set_option maxRecDepth 100000 in
theorem dX5_variants_220 : decode cX5_variants 220 = .ok (.aload 10, 2) := by decide +kernel
set_option maxRecDepth 100000 in
theorem dX5_variants_222 : decode cX5_variants 222 = .ok (.invokevirtual 324, 3) := by decide +kernel
set_option maxRecDepth 100000 in
theorem dX5_variants_225 : decode cX5_variants 225 = .ok (.invokevirtual 163, 3) := by decide +kernel
set_option maxRecDepth 100000 in
theorem dX5_variants_228 : decode cX5_variants 228 = .ok (.athrow, 1) := by decide +kernel
set_option maxRecDepth 100000 in
theorem dX5_variants_229 : decode cX5_variants 229 = .ok (.aload 7, 2) := by decide +kernel
set_option maxRecDepth 100000 in
theorem dX5_variants_231 : decode cX5_variants 231 = .ok (.aload_n 0, 1) := by decide +kernel
set_option maxRecDepth 100000 in
theorem dX5_variants_232 : decode cX5_variants 232 = .ok (.getfield 222, 3) := by decide +kernel
set_option maxRecDepth 100000 in
theorem dX5_variants_235 : decode cX5_variants 235 = .ok (.i2l, 1) := by decide +kernel
set_option maxRecDepth 100000 in
theorem dX5_variants_236 : decode cX5_variants 236 = .ok (.invokevirtual 396, 3) := by decide +kernel
set_option maxRecDepth 100000 in
theorem dX5_variants_239 : decode cX5_variants 239 = .ok (.iconst (-1), 1) := by decide +kernel
set_option maxRecDepth 100000 in
theorem dX5_variants_240 : decode cX5_variants 240 = .ok (.if_icmp .eq 15, 3) := by decide +kernel
set_option maxRecDepth 100000 in
theorem dX5_variants_243 : decode cX5_variants 243 = .ok (.aload_n 0, 1) := by decide +kernel
set_option maxRecDepth 100000 in
theorem dX5_variants_244 : decode cX5_variants 244 = .ok (.iconst 5, 1) := by decide +kernel
set_option maxRecDepth 100000 in
theorem dX5_variants_245 : decode cX5_variants 245 = .ok (.aload_n 0, 1) := by decide +kernel
set_option maxRecDepth 100000 in
theorem dX5_variants_246 : decode cX5_variants 246 = .ok (.aload 10, 2) := by decide +kernel
set_option maxRecDepth 100000 in
theorem dX5_variants_248 : decode cX5_variants 248 = .ok (.invokevirtual 324, 3) := by decide +kernel
set_option maxRecDepth 100000 in
theorem dX5_variants_251 : decode cX5_variants 251 = .ok (.invokevirtual 163, 3) := by decide +kernel
set_option maxRecDepth 100000 in
theorem dX5_variants_254 : decode cX5_variants 254 = .ok (.athrow, 1) := by decide +kernel
set_option maxRecDepth 100000 in
theorem dX5_variants_255 : decode cX5_variants 255 = .ok (.aload 7, 2) := by decide +kernel
set_option maxRecDepth 100000 in
theorem dX5_variants_257 : decode cX5_variants 257 = .ok (.aload_n 0, 1) := by decide +kernel
set_option maxRecDepth 100000 in
theorem dX5_variants_258 : decode cX5_variants 258 = .ok (.getfield 222, 3) := by decide +kernel
set_option maxRecDepth 100000 in
theorem dX5_variants_261 : decode cX5_variants 261 = .ok (.iload 8, 2) := by decide +kernel
set_option maxRecDepth 100000 in
theorem dX5_variants_263 : decode cX5_variants 263 = .ok (.invokevirtual 400, 3) := by decide +kernel
set_option maxRecDepth 100000 in
theorem dX5_variants_266 : decode cX5_variants 266 = .ok (.aload 10, 2) := by decide +kernel
set_option maxRecDepth 100000 in
theorem dX5_variants_268 : decode cX5_variants 268 = .ok (.getfield 307, 3) := by decide +kernel
set_option maxRecDepth 100000 in
theorem dX5_variants_271 : decode cX5_variants 271 = .ok (.astore 10, 2) := by decide +kernel
set_option maxRecDepth 100000 in
theorem dX5_variants_273 : decode cX5_variants 273 = .ok (.goto (-93), 3) := by decide +kernel
set_option maxRecDepth 100000 in
theorem dX5_variants_276 : decode cX5_variants 276 = .ok (.aload_n 0, 1) := by decide +kernel
set_option maxRecDepth 100000 in
theorem dX5_variants_277 : decode cX5_variants 277 = .ok (.aload_n 1, 1) := by decide +kernel
set_option maxRecDepth 100000 in
theorem dX5_variants_278 : decode cX5_variants 278 = .ok (.aload 9, 2) := by decide +kernel
set_option maxRecDepth 100000 in
theorem dX5_variants_280 : decode cX5_variants 280 = .ok (.iconst 1, 1) := by decide +kernel
set_option maxRecDepth 100000 in
theorem dX5_variants_281 : decode cX5_variants 281 = .ok (.invokevirtual 310, 3) := by decide +kernel
set_option maxRecDepth 100000 in
theorem dX5_variants_284 : decode cX5_variants 284 = .ok (.aload 7, 2) := by decide +kernel
set_option maxRecDepth 100000 in
theorem dX5_variants_286 : decode cX5_variants 286 = .ok (.iload 8, 2) := by decide +kernel
set_option maxRecDepth 100000 in
theorem dX5_variants_288 : decode cX5_variants 288 = .ok (.invokevirtual 354, 3) := by decide +kernel
set_option maxRecDepth 100000 in
theorem dX5_variants_291 : decode cX5_variants 291 = .ok (.iinc 8 1, 3) := by decide +kernel
set_option maxRecDepth 100000 in
theorem dX5_variants_294 : decode cX5_variants 294 = .ok (.aload 9, 2) := by decide +kernel
set_option maxRecDepth 100000 in
theorem dX5_variants_296 : decode cX5_variants 296 = .ok (.getfield 307, 3) := by decide +kernel
set_option maxRecDepth 100000 in
theorem dX5_variants_299 : decode cX5_variants 299 = .ok (.astore 9, 2) := by decide +kernel
set_option maxRecDepth 100000 in
theorem dX5_variants_301 : decode cX5_variants 301 = .ok (.goto (-136), 3) := by decide +kernel
set_option maxRecDepth 100000 in
theorem dX5_variants_304 : decode cX5_variants 304 = .ok (.aload 7, 2) := by decide +kernel
set_option maxRecDepth 100000 in
theorem dX5_variants_306 : decode cX5_variants 306 = .ok (.aload_n 1, 1) := by decide +kernel
set_option maxRecDepth 100000 in
theorem dX5_variants_307 : decode cX5_variants 307 = .ok (.getfield 66, 3) := by decide +kernel
set_option maxRecDepth 100000 in
theorem dX5_variants_310 : decode cX5_variants 310 = .ok (.putfield 403, 3) := by decide +kernel
set_option maxRecDepth 100000 in
theorem dX5_variants_313 : decode cX5_variants 313 = .ok (.return_, 1) := by decide +kernel
def lX5_variants_165 (G : xG) (fr lo : Nat) (x0 : Nat) (x1 : Nat) (x7 : Nat) (x8 : Int32) (x9 : Nat) (h : xH) (Q : Outcome → xH → Prop) : Prop := xP G YX5_variants fr lo 165 [(0, rv x0), (1, rv x1), (7, rv x7), (8, .int x8), (9, rv x9)] [] h Q
def lX5_variants_180 (G : xG) (fr lo : Nat) (x0 : Nat) (x1 : Nat) (x7 : Nat) (x8 : Int32) (x9 : Nat) (x10 : Nat) (h : xH) (Q : Outcome → xH → Prop) : Prop := xP G YX5_variants fr lo 180 [(0, rv x0), (1, rv x1), (7, rv x7), (8, .int x8), (9, rv x9), (10, rv x10)] [] h Q
set_option maxRecDepth 100000 in
def bX5_variants_216 (G : xG) (fr lo : Nat) (x0 : Nat) (x10 : Nat) (h : xH) (Q : Outcome → xH → Prop) : Prop := tg h x0 = 6 ∧ 1 ≤ fr ∧ 15 ≤ lo ∧ xRi G YX5_firstOfConstant (fr - 1) (lo - 15) [rv x0, rv x10] h (fun x5 h4 => xext h h4 → 1 ≤ fr ∧ 14 ≤ lo ∧ xRr G YX5_fault (fr - 1) (lo - 14) [rv x0, .int 7, .int x5] h4 (fun x11 h10 => xext h4 h10 → (∃ r13, x11 = r13 + 1 ∧ Q (.threw r13) h10)) (fun r h2 => Q (.threw r) h2)) (fun r h2 => Q (.threw r) h2)
set_option maxRecDepth 100000 in
theorem uX5_variants_216 {G : xG} {fr lo : Nat} {x0 : Nat} {x10 : Nat} {h : xH} {Q : Outcome → xH → Prop} (hq : bX5_variants_216 G fr lo x0 x10 h Q) : xP G YX5_variants fr lo 216 [(0, rv x0), (10, rv x10)] [] h Q := by
  unfold bX5_variants_216 at hq
  refine x_aload_n 0 dX5_variants_216 rfl ?_
  refine x_bipush (v := 7) dX5_variants_217 (by decide) ?_
  refine x_aload_n 0 dX5_variants_219 rfl ?_
  refine x_aload 1 dX5_variants_220 rfl ?_
  obtain ⟨g1, hq⟩ := hq
  obtain ⟨g2, g3, hq⟩ := hq
  refine x_callV (Yc := YX5_firstOfConstant) (as := [rv x10]) (st := [.int 7, rv x0]) q2300 mvX5_firstOfConstant g1 rfl dX5_variants_222 (xle (xal1 (rv_cat _) (xal1 (rv_cat _) xal0)) (by decide)) (xfr g2) (xlo (xsw1 rfl (xsw1 (rv_cat _) xsw0)) (by decide) g3) (xKi hq (fun x5 h4 hq e6 => ?_) (fun _ _ q _ => q))
  replace hq := hq e6
  have t7 : tg h4 x0 = 6 := e6.tg g1 (by decide)
  obtain ⟨g8, g9, hq⟩ := hq
  refine x_callV (Yc := YX5_fault) (as := [.int 7, .int x5]) (st := []) q2087 mvX5_fault t7 rfl dX5_variants_225 (xle (xal1 (rv_cat _) (xal1 rfl (xal1 rfl xal0))) (by decide)) (xfr g8) (xlo xsw0 (by decide) g9) (xKr hq (fun x11 h10 hq e12 => ?_) (fun _ _ q _ => q))
  replace hq := hq e12
  obtain ⟨r13, g14, hq⟩ := hq
  rw [g14]
  exact x_athrow dX5_variants_228 hq
set_option maxRecDepth 100000 in
def bX5_variants_180 (G : xG) (fr lo : Nat) (x0 : Nat) (x1 : Nat) (x7 : Nat) (x8 : Int32) (x9 : Nat) (x10 : Nat) (h : xH) (Q : Outcome → xH → Prop) : Prop := ((x10 = 0 → tg h x9 = 16 ∧ 1 ≤ fr ∧ 17 ≤ lo ∧ xRr G YX15_kid (fr - 1) (lo - 17) [rv x9, .int 1] h (fun x6 h5 => xext h h5 → tg h5 x0 = 6 ∧ 1 ≤ fr ∧ 19 ≤ lo ∧ xRv G YX5_fields (fr - 1) (lo - 19) [rv x0, rv x1, rv x6, rv x7, .int x8] h5 (fun h11 => xext h5 h11 → lX5_variants_165 G fr lo x0 x1 x7 (x8 + 1) (fR h11 x9 3844) h11 Q) (fun r h2 => Q (.threw r) h2)) (fun r h2 => Q (.threw r) h2)) ∧ (¬ x10 = 0 → tg h x0 = 6 ∧ 1 ≤ fr ∧ 15 ≤ lo ∧ xRv G YX5_constant (fr - 1) (lo - 15) [rv x0, rv x10] h (fun h19 => xext h h19 → tg h19 (fR h19 x0 1296) = 7 ∧ 1 ≤ fr ∧ 12 ≤ lo ∧ xRi G YX6_isOrdinal (fr - 1) (lo - 12) [rv (fR h19 x0 1296)] h19 (fun x27 h26 => xext h19 h26 → ((x27 = 0 → bX5_variants_216 G fr lo x0 x10 h26 Q) ∧ (¬ x27 = 0 → tg h26 x7 = 20 ∧ tg h26 (fR h26 x7 4870) = 7 ∧ 1 ≤ fr ∧ 13 ≤ lo ∧ xRr G YX6_own (fr - 1) (lo - 13) [rv (fR h26 x7 4870)] h26 (fun x36 h35 => xext h26 h35 → (((fR h26 x0 1296) = x36 → 1 ≤ fr ∧ 15 ≤ lo ∧ xRi G YX19_choiceOf (fr - 1) (lo - 15) [rv x7, .long (Int32.toInt64 (fI h35 x0 1297))] h35 (fun x44 h43 => xext h35 h43 → ((x44 = (-1) → 1 ≤ fr ∧ 16 ≤ lo ∧ xRv G YX19_add (fr - 1) (lo - 16) [rv x7, .int (fI h43 x0 1297), .int x8] h43 (fun h51 => xext h43 h51 → tg h51 x10 = 16 ∧ lX5_variants_180 G fr lo x0 x1 x7 x8 x9 (fR h51 x10 3844) h51 Q) (fun r h2 => Q (.threw r) h2)) ∧ (¬ x44 = (-1) → 1 ≤ fr ∧ 15 ≤ lo ∧ xRi G YX5_firstOfConstant (fr - 1) (lo - 15) [rv x0, rv x10] h43 (fun x59 h58 => xext h43 h58 → 1 ≤ fr ∧ 14 ≤ lo ∧ xRr G YX5_fault (fr - 1) (lo - 14) [rv x0, .int 5, .int x59] h58 (fun x65 h64 => xext h58 h64 → (∃ r67, x65 = r67 + 1 ∧ Q (.threw r67) h64)) (fun r h2 => Q (.threw r) h2)) (fun r h2 => Q (.threw r) h2)))) (fun r h2 => Q (.threw r) h2)) ∧ (¬ (fR h26 x0 1296) = x36 → bX5_variants_216 G fr lo x0 x10 h35 Q))) (fun r h2 => Q (.threw r) h2)))) (fun r h2 => Q (.threw r) h2)) (fun r h2 => Q (.threw r) h2)))
set_option maxRecDepth 100000 in
theorem uX5_variants_180 {G : xG} {fr lo : Nat} {x0 : Nat} {x1 : Nat} {x7 : Nat} {x8 : Int32} {x9 : Nat} {x10 : Nat} {h : xH} {Q : Outcome → xH → Prop} (hq : bX5_variants_180 G fr lo x0 x1 x7 x8 x9 x10 h Q) : xP G YX5_variants fr lo 180 [(0, rv x0), (1, rv x1), (7, rv x7), (8, .int x8), (9, rv x9), (10, rv x10)] [] h Q := by
  unfold bX5_variants_180 at hq
  refine x_aload 5 dX5_variants_180 rfl ?_
  refine x_ifnull (tgt := 276) dX5_variants_182 (by decide) (fun c1 => ?_) (fun c1 => ?_)
  · replace hq := hq.1 c1
    refine x_aload_n 0 dX5_variants_276 rfl ?_
    refine x_aload_n 1 dX5_variants_277 rfl ?_
    refine x_aload 4 dX5_variants_278 rfl ?_
    refine x_iconst (v := 1) dX5_variants_280 (by decide) ?_
    obtain ⟨g2, hq⟩ := hq
    obtain ⟨g3, g4, hq⟩ := hq
    refine x_callV (Yc := YX15_kid) (as := [.int 1]) (st := [rv x1, rv x0]) q2129 mvX15_kid g2 rfl dX5_variants_281 (xle (xal1 (rv_cat _) (xal1 rfl xal0)) (by decide)) (xfr g3) (xlo (xsw1 (rv_cat _) (xsw1 (rv_cat _) xsw0)) (by decide) g4) (xKr hq (fun x6 h5 hq e7 => ?_) (fun _ _ q _ => q))
    replace hq := hq e7
    refine x_aload 2 dX5_variants_284 rfl ?_
    refine x_iload 3 dX5_variants_286 rfl ?_
    obtain ⟨g8, hq⟩ := hq
    obtain ⟨g9, g10, hq⟩ := hq
    refine x_callV (Yc := YX5_fields) (as := [rv x1, rv x6, rv x7, .int x8]) (st := []) q2310 mvX5_fields g8 rfl dX5_variants_288 (xle (xal1 (rv_cat _) (xal1 (rv_cat _) (xal1 (rv_cat _) (xal1 (rv_cat _) (xal1 rfl xal0))))) (by decide)) (xfr g9) (xlo xsw0 (by decide) g10) (xKv hq (fun h11 hq e13 => ?_) (fun _ _ q _ => q))
    replace hq := hq e13
    refine x_iinc (lv' := [(8, .int (x8 + 1)), (0, rv x0), (1, rv x1), (7, rv x7), (9, rv x9), (10, rv x10)]) 3 dX5_variants_291 rfl (by decide) (by first | rfl | (simp [rv_cat, Value.category]; done) | (simp [rv_cat, Value.category]; decide)) ?_
    refine x_aload 4 dX5_variants_294 rfl ?_
    have t14 : tg h5 x9 = 16 := e7.tg g2 (by decide)
    have t15 : tg h11 x9 = 16 := e13.tg t14 (by decide)
    refine x_getN (v := rv (fR h11 x9 3844)) gfX5_307 dX5_variants_296 t15 rfl ?_
    refine x_astore (lv' := [(9, rv (fR h11 x9 3844)), (8, .int (x8 + 1)), (0, rv x0), (1, rv x1), (7, rv x7), (10, rv x10)]) dX5_variants_299 (by decide) rfl ?_
    refine x_goto (tgt := 165) dX5_variants_301 (by decide) ?_
    refine xP.pick (lv' := [(0, rv x0), (1, rv x1), (7, rv x7), (8, .int (x8 + 1)), (9, rv (fR h11 x9 3844))]) [2, 3, 4, 1, 0] rfl ?_
    exact hq
  · replace hq := hq.2 c1
    refine x_aload_n 0 dX5_variants_185 rfl ?_
    refine x_aload 5 dX5_variants_186 rfl ?_
    obtain ⟨g16, hq⟩ := hq
    obtain ⟨g17, g18, hq⟩ := hq
    refine x_callV (Yc := YX5_constant) (as := [rv x10]) (st := []) q2229 mvX5_constant g16 rfl dX5_variants_188 (xle (xal1 (rv_cat _) (xal1 (rv_cat _) xal0)) (by decide)) (xfr g17) (xlo xsw0 (by decide) g18) (xKv hq (fun h19 hq e21 => ?_) (fun _ _ q _ => q))
    replace hq := hq e21
    refine x_aload_n 0 dX5_variants_191 rfl ?_
    have t22 : tg h19 x0 = 6 := e21.tg g16 (by decide)
    refine x_get (v := rv (fR h19 x0 1296)) fdX5_216 dX5_variants_192 t22 rfl ?_
    obtain ⟨g23, hq⟩ := hq
    obtain ⟨g24, g25, hq⟩ := hq
    refine x_callV (Yc := YX6_isOrdinal) (as := []) (st := []) q2288 mvX6_isOrdinal g23 rfl dX5_variants_195 (xle (xal1 (rv_cat _) xal0) (by decide)) (xfr g24) (xlo xsw0 (by decide) g25) (xKi hq (fun x27 h26 hq e28 => ?_) (fun _ _ q _ => q))
    replace hq := hq e28
    refine x_if_eq (tgt := 216) dX5_variants_198 (by decide) (fun c29 => ?_) (fun c29 => ?_)
    · replace hq := hq.1 c29
      refine xP.pick (lv' := [(0, rv x0), (10, rv x10)]) [0, 5] rfl ?_
      exact uX5_variants_216 hq
    · replace hq := hq.2 c29
      refine x_aload_n 0 dX5_variants_201 rfl ?_
      have t30 : tg h26 x0 = 6 := e28.tg t22 (by decide)
      refine x_get (v := rv (fR h26 x0 1296)) fdX5_216 dX5_variants_202 t30 rfl ?_
      refine x_aload 2 dX5_variants_205 rfl ?_
      obtain ⟨g31, hq⟩ := hq
      refine x_getN (v := rv (fR h26 x7 4870)) gfX5_379 dX5_variants_207 g31 rfl ?_
      obtain ⟨g32, hq⟩ := hq
      obtain ⟨g33, g34, hq⟩ := hq
      refine x_callV (Yc := YX6_own) (as := []) (st := [rv (fR h26 x0 1296)]) q2400 mvX6_own g32 rfl dX5_variants_210 (xle (xal1 (rv_cat _) xal0) (by decide)) (xfr g33) (xlo (xsw1 (rv_cat _) xsw0) (by decide) g34) (xKr hq (fun x36 h35 hq e37 => ?_) (fun _ _ q _ => q))
      replace hq := hq e37
      refine x_acmp_eq (tgt := 229) dX5_variants_213 (by decide) (fun c38 => ?_) (fun c38 => ?_)
      · replace hq := hq.1 c38
        refine x_aload 2 dX5_variants_229 rfl ?_
        refine x_aload_n 0 dX5_variants_231 rfl ?_
        have t39 : tg h35 x0 = 6 := e37.tg t30 (by decide)
        refine x_get (v := .int (fI h35 x0 1297)) fdX5_222 dX5_variants_232 t39 rfl ?_
        refine x_i2l dX5_variants_235 ?_
        have t40 : tg h35 x7 = 20 := e37.tg g31 (by decide)
        obtain ⟨g41, g42, hq⟩ := hq
        refine x_callV (Yc := YX19_choiceOf) (as := [.long (Int32.toInt64 (fI h35 x0 1297))]) (st := []) q2401 mvX19_choiceOf t40 rfl dX5_variants_236 (xle (xal1 (rv_cat _) (xal2 rfl xal0)) (by decide)) (xfr g41) (xlo xsw0 (by decide) g42) (xKi hq (fun x44 h43 hq e45 => ?_) (fun _ _ q _ => q))
        replace hq := hq e45
        refine x_iconst (v := (-1)) dX5_variants_239 (by decide) ?_
        refine x_icmp_eq (tgt := 255) dX5_variants_240 (by decide) (fun c46 => ?_) (fun c46 => ?_)
        · replace hq := hq.1 c46
          refine x_aload 2 dX5_variants_255 rfl ?_
          refine x_aload_n 0 dX5_variants_257 rfl ?_
          have t47 : tg h43 x0 = 6 := e45.tg t39 (by decide)
          refine x_get (v := .int (fI h43 x0 1297)) fdX5_222 dX5_variants_258 t47 rfl ?_
          refine x_iload 3 dX5_variants_261 rfl ?_
          have t48 : tg h43 x7 = 20 := e45.tg t40 (by decide)
          obtain ⟨g49, g50, hq⟩ := hq
          refine x_callV (Yc := YX19_add) (as := [.int (fI h43 x0 1297), .int x8]) (st := []) q2409 mvX19_add t48 rfl dX5_variants_263 (xle (xal1 (rv_cat _) (xal1 rfl (xal1 rfl xal0))) (by decide)) (xfr g49) (xlo xsw0 (by decide) g50) (xKv hq (fun h51 hq e53 => ?_) (fun _ _ q _ => q))
          replace hq := hq e53
          refine x_aload 5 dX5_variants_266 rfl ?_
          obtain ⟨g54, hq⟩ := hq
          refine x_getN (v := rv (fR h51 x10 3844)) gfX5_307 dX5_variants_268 g54 rfl ?_
          refine x_astore (lv' := [(10, rv (fR h51 x10 3844)), (0, rv x0), (1, rv x1), (7, rv x7), (8, .int x8), (9, rv x9)]) dX5_variants_271 (by decide) (by first | rfl | (simp [rv_cat, Value.category]; done) | (simp [rv_cat, Value.category]; decide)) ?_
          refine x_goto (tgt := 180) dX5_variants_273 (by decide) ?_
          refine xP.pick (lv' := [(0, rv x0), (1, rv x1), (7, rv x7), (8, .int x8), (9, rv x9), (10, rv (fR h51 x10 3844))]) [1, 2, 3, 4, 5, 0] rfl ?_
          exact hq
        · replace hq := hq.2 c46
          refine x_aload_n 0 dX5_variants_243 rfl ?_
          refine x_iconst (v := 5) dX5_variants_244 (by decide) ?_
          refine x_aload_n 0 dX5_variants_245 rfl ?_
          refine x_aload 5 dX5_variants_246 rfl ?_
          have t55 : tg h43 x0 = 6 := e45.tg t39 (by decide)
          obtain ⟨g56, g57, hq⟩ := hq
          refine x_callV (Yc := YX5_firstOfConstant) (as := [rv x10]) (st := [.int 5, rv x0]) q2300 mvX5_firstOfConstant t55 rfl dX5_variants_248 (xle (xal1 (rv_cat _) (xal1 (rv_cat _) xal0)) (by decide)) (xfr g56) (xlo (xsw1 rfl (xsw1 (rv_cat _) xsw0)) (by decide) g57) (xKi hq (fun x59 h58 hq e60 => ?_) (fun _ _ q _ => q))
          replace hq := hq e60
          have t61 : tg h58 x0 = 6 := e60.tg t55 (by decide)
          obtain ⟨g62, g63, hq⟩ := hq
          refine x_callV (Yc := YX5_fault) (as := [.int 5, .int x59]) (st := []) q2087 mvX5_fault t61 rfl dX5_variants_251 (xle (xal1 (rv_cat _) (xal1 rfl (xal1 rfl xal0))) (by decide)) (xfr g62) (xlo xsw0 (by decide) g63) (xKr hq (fun x65 h64 hq e66 => ?_) (fun _ _ q _ => q))
          replace hq := hq e66
          obtain ⟨r67, g68, hq⟩ := hq
          rw [g68]
          exact x_athrow dX5_variants_254 hq
      · replace hq := hq.2 c38
        refine xP.pick (lv' := [(0, rv x0), (10, rv x10)]) [0, 5] rfl ?_
        exact uX5_variants_216 hq
set_option maxRecDepth 100000 in
def bX5_variants_165 (G : xG) (fr lo : Nat) (x0 : Nat) (x1 : Nat) (x7 : Nat) (x8 : Int32) (x9 : Nat) (h : xH) (Q : Outcome → xH → Prop) : Prop := ((x9 = 0 → tg h x1 = 7 ∧ tg h x7 = 20 ∧ (∀ h4 : xH, h4 = sI h x7 4868 (fI h x1 1543) → Q (.returned none) h4)) ∧ (¬ x9 = 0 → tg h x9 = 16 ∧ tg h (fR h x9 3842) = 16 ∧ lX5_variants_180 G fr lo x0 x1 x7 x8 x9 (fR h (fR h x9 3842) 3842) h Q))
set_option maxRecDepth 100000 in
theorem uX5_variants_165 {G : xG} {fr lo : Nat} {x0 : Nat} {x1 : Nat} {x7 : Nat} {x8 : Int32} {x9 : Nat} {h : xH} {Q : Outcome → xH → Prop} (hq : bX5_variants_165 G fr lo x0 x1 x7 x8 x9 h Q) : xP G YX5_variants fr lo 165 [(0, rv x0), (1, rv x1), (7, rv x7), (8, .int x8), (9, rv x9)] [] h Q := by
  unfold bX5_variants_165 at hq
  refine x_aload 4 dX5_variants_165 rfl ?_
  refine x_ifnull (tgt := 304) dX5_variants_167 (by decide) (fun c1 => ?_) (fun c1 => ?_)
  · replace hq := hq.1 c1
    refine x_aload 2 dX5_variants_304 rfl ?_
    refine x_aload_n 1 dX5_variants_306 rfl ?_
    obtain ⟨g2, hq⟩ := hq
    refine x_getN (v := .int (fI h x1 1543)) gfX5_66 dX5_variants_307 g2 rfl ?_
    obtain ⟨g3, hq⟩ := hq
    obtain ⟨h4, e5⟩ : ∃ y, y = sI h x7 4868 (fI h x1 1543) := ⟨_, rfl⟩
    replace hq := hq h4 e5
    refine x_putNI gfX5_403 xty_I1 dX5_variants_310 g3 (Or.inl (by rw [g3]; rfl)) xnI rfl e5 ?_
    exact x_vret rfl dX5_variants_313 hq
  · replace hq := hq.2 c1
    refine x_aload 4 dX5_variants_170 rfl ?_
    obtain ⟨g6, hq⟩ := hq
    refine x_getN (v := rv (fR h x9 3842)) gfX5_251 dX5_variants_172 g6 rfl ?_
    obtain ⟨g7, hq⟩ := hq
    refine x_getN (v := rv (fR h (fR h x9 3842) 3842)) gfX5_251 dX5_variants_175 g7 rfl ?_
    refine x_astore (lv' := [(10, rv (fR h (fR h x9 3842) 3842)), (0, rv x0), (1, rv x1), (7, rv x7), (8, .int x8), (9, rv x9)]) dX5_variants_178 (by decide) (by first | rfl | (simp [rv_cat, Value.category]; done) | (simp [rv_cat, Value.category]; decide)) ?_
    refine xP.pick (lv' := [(0, rv x0), (1, rv x1), (7, rv x7), (8, .int x8), (9, rv x9), (10, rv (fR h (fR h x9 3842) 3842))]) [1, 2, 3, 4, 5, 0] rfl ?_
    exact hq
set_option maxRecDepth 100000 in
def bX5_variants_133 (G : xG) (fr lo : Nat) (x0 : Nat) (x1 : Nat) (x6 : Nat) (x7 : Nat) (h : xH) (Q : Outcome → xH → Prop) : Prop := tg h x1 = 7 ∧ tg h x7 = 20 ∧ (∀ h3 : xH, h3 = sI h x7 4867 (fI h x1 1543) → tg h3 x0 = 6 ∧ tg h3 (fR h3 x0 1281) = 3 ∧ tg h3 (fR h3 (fR h3 x0 1281) 523) = 29 ∧ 1 ≤ fr ∧ 13 ≤ lo ∧ xRi G YJ2_add (fr - 1) (lo - 13) [rv (fR h3 (fR h3 x0 1281) 523), rv x7] h3 (fun x11 h10 => xext h3 h10 → tg h10 x6 = 16 ∧ lX5_variants_165 G fr lo x0 x1 x7 0 (fR h10 x6 3844) h10 Q) (fun r h2 => Q (.threw r) h2))
set_option maxRecDepth 100000 in
theorem uX5_variants_133 {G : xG} {fr lo : Nat} {x0 : Nat} {x1 : Nat} {x6 : Nat} {x7 : Nat} {h : xH} {Q : Outcome → xH → Prop} (hq : bX5_variants_133 G fr lo x0 x1 x6 x7 h Q) : xP G YX5_variants fr lo 133 [(0, rv x0), (1, rv x1), (6, rv x6), (7, rv x7)] [] h Q := by
  unfold bX5_variants_133 at hq
  refine x_aload 3 dX5_variants_133 rfl ?_
  refine x_aload_n 1 dX5_variants_135 rfl ?_
  obtain ⟨g1, hq⟩ := hq
  refine x_getN (v := .int (fI h x1 1543)) gfX5_66 dX5_variants_136 g1 rfl ?_
  obtain ⟨g2, hq⟩ := hq
  obtain ⟨h3, e4⟩ : ∃ y, y = sI h x7 4867 (fI h x1 1543) := ⟨_, rfl⟩
  replace hq := hq h3 e4
  refine x_putNI gfX5_387 xty_I1 dX5_variants_139 g2 (Or.inl (by rw [g2]; rfl)) xnI rfl e4 ?_
  refine x_aload_n 0 dX5_variants_142 rfl ?_
  obtain ⟨g5, hq⟩ := hq
  refine x_get (v := rv (fR h3 x0 1281)) fdX5_62 dX5_variants_143 g5 rfl ?_
  obtain ⟨g6, hq⟩ := hq
  refine x_getN (v := rv (fR h3 (fR h3 x0 1281) 523)) gfX5_390 dX5_variants_146 g6 rfl ?_
  refine x_aload 3 dX5_variants_149 rfl ?_
  obtain ⟨g7, hq⟩ := hq
  obtain ⟨g8, g9, hq⟩ := hq
  refine x_callV (Yc := YJ2_add) (as := [rv x7]) (st := []) q1009 mvJ2_add g7 rfl dX5_variants_151 (xle (xal1 (rv_cat _) (xal1 (rv_cat _) xal0)) (by decide)) (xfr g8) (xlo xsw0 (by decide) g9) (xKi hq (fun x11 h10 hq e12 => ?_) (fun _ _ q _ => q))
  replace hq := hq e12
  refine x_pop dX5_variants_154 rfl ?_
  refine x_iconst (v := 0) dX5_variants_155 (by decide) ?_
  refine x_istore (lv' := [(8, .int 0), (0, rv x0), (1, rv x1), (6, rv x6), (7, rv x7)]) dX5_variants_156 (by decide) (by first | rfl | (simp [rv_cat, Value.category]; done) | (simp [rv_cat, Value.category]; decide)) ?_
  refine x_aload 3 dX5_variants_158 rfl ?_
  obtain ⟨g13, hq⟩ := hq
  refine x_getN (v := rv (fR h10 x6 3844)) gfX5_307 dX5_variants_160 g13 rfl ?_
  refine x_astore (lv' := [(9, rv (fR h10 x6 3844)), (8, .int 0), (0, rv x0), (1, rv x1), (6, rv x6), (7, rv x7)]) dX5_variants_163 (by decide) rfl ?_
  refine xP.pick (lv' := [(0, rv x0), (1, rv x1), (7, rv x7), (8, .int 0), (9, rv (fR h10 x6 3844))]) [2, 3, 5, 1, 0] rfl ?_
  exact hq
set_option maxRecDepth 100000 in
def bX5_variants_38 (G : xG) (fr lo : Nat) (x0 : Nat) (x1 : Nat) (x2 : Nat) (x3 : Nat) (x4 : Int32) (x5 : Int32) (s0 : Nat) (h : xH) (Q : Outcome → xH → Prop) : Prop := nx h + 1 ≤ xGN G ∧ us h + 10 ≤ xGU G ∧ (∀ (a3 : Nat) (h4 : xH), a3 = nx h + 1 → h4 = nO h 20 10 → xfresh h a3 → tg h4 x1 = 7 ∧ 1 ≤ fr ∧ 16 ≤ lo ∧ xRv G YX19_init (fr - 1) (lo - 16) [rv a3, rv x3, .int x4, .int (fI h4 x1 1543)] h4 (fun h12 => xext h4 h12 → tg h12 x0 = 6 ∧ 1 ≤ fr ∧ 14 ≤ lo ∧ xRr G YX5_namedType (fr - 1) (lo - 14) [rv x0, rv s0] h12 (fun x19 h18 => xext h12 h18 → (∀ h23 : xH, h23 = sR h18 a3 4870 x19 → xbz x5 ∧ (∀ h27 : xH, h27 = sI h23 a3 4869 x5 → tg h27 (fR h27 a3 4870) = 7 ∧ 1 ≤ fr ∧ 12 ≤ lo ∧ xRi G YX6_isOrdinal (fr - 1) (lo - 12) [rv (fR h27 a3 4870)] h27 (fun x34 h33 => xext h27 h33 → ((¬ x34 = 0 → ((x5 = 0 → 1 ≤ fr ∧ 14 ≤ lo ∧ xRv G YX5_grow (fr - 1) (lo - 14) [rv x0, rv x1, .int 1] h33 (fun h44 => xext h33 h44 → bX5_variants_133 G fr lo x0 x1 s0 a3 h44 Q) (fun r h2 => Q (.threw r) h2)) ∧ (¬ x5 = 0 → tg h33 x2 = 16 ∧ 1 ≤ fr ∧ 18 ≤ lo ∧ xRr G YX5_field (fr - 1) (lo - 18) [rv x0, rv x1, rv (fR h33 x2 3842), rv (fR h33 a3 4870), rv x3, .int x4] h33 (fun x56 h55 => xext h33 h55 → tg h55 x56 = 21 ∧ (∀ h59 : xH, h59 = sR h55 x56 5125 a3 → bX5_variants_133 G fr lo x0 x1 s0 a3 h59 Q)) (fun r h2 => Q (.threw r) h2)))) ∧ (x34 = 0 → tg h33 s0 = 16 ∧ 1 ≤ fr ∧ 14 ≤ lo ∧ xRi G YX15_place (fr - 1) (lo - 14) [rv s0] h33 (fun x65 h64 => xext h33 h64 → 1 ≤ fr ∧ 14 ≤ lo ∧ xRr G YX5_fault (fr - 1) (lo - 14) [rv x0, .int 7, .int x65] h64 (fun x75 h74 => xext h64 h74 → (∃ r77, x75 = r77 + 1 ∧ Q (.threw r77) h74)) (fun r h2 => Q (.threw r) h2)) (fun r h2 => Q (.threw r) h2)))) (fun r h2 => Q (.threw r) h2)))) (fun r h2 => Q (.threw r) h2)) (fun r h2 => Q (.threw r) h2))
set_option maxRecDepth 100000 in
theorem uX5_variants_38 {G : xG} {fr lo : Nat} {x0 : Nat} {x1 : Nat} {x2 : Nat} {x3 : Nat} {x4 : Int32} {x5 : Int32} {s0 : Nat} {h : xH} {Q : Outcome → xH → Prop} (hq : bX5_variants_38 G fr lo x0 x1 x2 x3 x4 x5 s0 h Q) : xP G YX5_variants fr lo 38 [(0, rv x0), (1, rv x1), (2, rv x2), (3, rv x3), (4, .int x4), (5, .int x5)] [rv s0] h Q := by
  unfold bX5_variants_38 at hq
  refine x_astore (lv' := [(6, rv s0), (0, rv x0), (1, rv x1), (2, rv x2), (3, rv x3), (4, .int x4), (5, .int x5)]) dX5_variants_38 (by decide) rfl ?_
  obtain ⟨g1, g2, hq⟩ := hq
  obtain ⟨a3, e5⟩ : ∃ y, y = nx h + 1 := ⟨_, rfl⟩
  obtain ⟨h4, e6⟩ : ∃ y, y = nO h 20 10 := ⟨_, rfl⟩
  refine x_new' cdX5_374 dX5_variants_40 g1 g2 e5 e6 (fun f7 => ?_)
  replace hq := hq a3 h4 e5 e6 f7
  have t8 : tg h4 a3 = 20 := by rw [e6, e5]; exact tg_nO
  refine x_dup dX5_variants_43 (rv_cat _) ?_
  refine x_aload_n 4 dX5_variants_44 rfl ?_
  refine x_iload 5 dX5_variants_45 rfl ?_
  refine x_aload_n 2 dX5_variants_47 rfl ?_
  obtain ⟨g9, hq⟩ := hq
  refine x_getN (v := .int (fI h4 x1 1543)) gfX5_66 dX5_variants_48 g9 rfl ?_
  obtain ⟨g10, g11, hq⟩ := hq
  refine x_callI (Yc := YX19_init) (as := [rv x3, .int x4, .int (fI h4 x1 1543)]) (st := [rv a3]) q2320 miX19_init (by rw [t8]; decide) rfl dX5_variants_51 (xle (xal1 (rv_cat _) (xal1 (rv_cat _) (xal1 rfl (xal1 rfl xal0)))) (by decide)) (xfr g10) (xlo (xsw1 (rv_cat _) xsw0) (by decide) g11) (xKv hq (fun h12 hq e14 => ?_) (fun _ _ q _ => q))
  replace hq := hq e14
  refine x_astore (lv' := [(7, rv a3), (6, rv s0), (0, rv x0), (1, rv x1), (2, rv x2), (3, rv x3), (4, .int x4), (5, .int x5)]) dX5_variants_54 (by decide) (by first | rfl | (simp [rv_cat, Value.category]; done) | (simp [rv_cat, Value.category]; decide)) ?_
  refine x_aload 0 dX5_variants_56 rfl ?_
  refine x_aload_n 2 dX5_variants_58 rfl ?_
  refine x_aload 1 dX5_variants_59 rfl ?_
  obtain ⟨g15, hq⟩ := hq
  obtain ⟨g16, g17, hq⟩ := hq
  refine x_callV (Yc := YX5_namedType) (as := [rv s0]) (st := [rv a3]) q2276 mvX5_namedType g15 rfl dX5_variants_61 (xle (xal1 (rv_cat _) (xal1 (rv_cat _) xal0)) (by decide)) (xfr g16) (xlo (xsw1 (rv_cat _) xsw0) (by decide) g17) (xKr hq (fun x19 h18 hq e20 => ?_) (fun _ _ q _ => q))
  replace hq := hq e20
  have t21 : tg h12 a3 = 20 := e14.tg t8 (by decide)
  have t22 : tg h18 a3 = 20 := e20.tg t21 (by decide)
  obtain ⟨h23, e24⟩ : ∃ y, y = sR h18 a3 4870 x19 := ⟨_, rfl⟩
  replace hq := hq h23 e24
  refine x_putNR gfX5_379 xty_O dX5_variants_64 t22 (Or.inl (by rw [t22]; rfl)) rfl e24 ?_
  refine x_aload 0 dX5_variants_67 rfl ?_
  refine x_iload 7 dX5_variants_69 rfl ?_
  have t25 : tg h23 a3 = 20 := by rw [e24]; exact t22
  obtain ⟨g26, hq⟩ := hq
  obtain ⟨h27, e28⟩ : ∃ y, y = sI h23 a3 4869 x5 := ⟨_, rfl⟩
  replace hq := hq h27 e28
  refine x_putNI gfX5_380 xty_Z1 dX5_variants_71 t25 (Or.inl (by rw [t25]; rfl)) (xnB g26) rfl e28 ?_
  refine x_aload 0 dX5_variants_74 rfl ?_
  have t29 : tg h27 a3 = 20 := by rw [e28]; exact t25
  refine x_getN (v := rv (fR h27 a3 4870)) gfX5_379 dX5_variants_76 t29 rfl ?_
  obtain ⟨g30, hq⟩ := hq
  obtain ⟨g31, g32, hq⟩ := hq
  refine x_callV (Yc := YX6_isOrdinal) (as := []) (st := []) q2288 mvX6_isOrdinal g30 rfl dX5_variants_79 (xle (xal1 (rv_cat _) xal0) (by decide)) (xfr g31) (xlo xsw0 (by decide) g32) (xKi hq (fun x34 h33 hq e35 => ?_) (fun _ _ q _ => q))
  replace hq := hq e35
  refine x_if_ne (tgt := 97) dX5_variants_82 (by decide) (fun c36 => ?_) (fun c36 => ?_)
  · replace hq := hq.1 c36
    refine x_iload 7 dX5_variants_97 rfl ?_
    refine x_if_eq (tgt := 127) dX5_variants_99 (by decide) (fun c37 => ?_) (fun c37 => ?_)
    · replace hq := hq.1 c37
      refine x_aload_n 2 dX5_variants_127 rfl ?_
      refine x_aload_n 3 dX5_variants_128 rfl ?_
      refine x_iconst (v := 1) dX5_variants_129 (by decide) ?_
      have t38 : tg h18 x0 = 6 := e20.tg g15 (by decide)
      have t39 : tg h23 x0 = 6 := by rw [e24]; exact t38
      have t40 : tg h27 x0 = 6 := by rw [e28]; exact t39
      have t41 : tg h33 x0 = 6 := e35.tg t40 (by decide)
      obtain ⟨g42, g43, hq⟩ := hq
      refine x_callV (Yc := YX5_grow) (as := [rv x1, .int 1]) (st := []) q2395 mvX5_grow t41 rfl dX5_variants_130 (xle (xal1 (rv_cat _) (xal1 (rv_cat _) (xal1 rfl xal0))) (by decide)) (xfr g42) (xlo xsw0 (by decide) g43) (xKv hq (fun h44 hq e46 => ?_) (fun _ _ q _ => q))
      replace hq := hq e46
      refine xP.pick (lv' := [(0, rv x0), (1, rv x1), (6, rv s0), (7, rv a3)]) [2, 3, 1, 0] rfl ?_
      exact uX5_variants_133 hq
    · replace hq := hq.2 c37
      refine x_aload_n 2 dX5_variants_102 rfl ?_
      refine x_aload_n 3 dX5_variants_103 rfl ?_
      refine x_aload_n 4 dX5_variants_104 rfl ?_
      obtain ⟨g47, hq⟩ := hq
      refine x_getN (v := rv (fR h33 x2 3842)) gfX5_251 dX5_variants_105 g47 rfl ?_
      refine x_aload 0 dX5_variants_108 rfl ?_
      have t48 : tg h33 a3 = 20 := e35.tg t29 (by decide)
      refine x_getN (v := rv (fR h33 a3 4870)) gfX5_379 dX5_variants_110 t48 rfl ?_
      refine x_aload_n 5 dX5_variants_113 rfl ?_
      refine x_iload 6 dX5_variants_114 rfl ?_
      have t49 : tg h18 x0 = 6 := e20.tg g15 (by decide)
      have t50 : tg h23 x0 = 6 := by rw [e24]; exact t49
      have t51 : tg h27 x0 = 6 := by rw [e28]; exact t50
      have t52 : tg h33 x0 = 6 := e35.tg t51 (by decide)
      obtain ⟨g53, g54, hq⟩ := hq
      refine x_callV (Yc := YX5_field) (as := [rv x1, rv (fR h33 x2 3842), rv (fR h33 a3 4870), rv x3, .int x4]) (st := []) q2361 mvX5_field t52 rfl dX5_variants_116 (xle (xal1 (rv_cat _) (xal1 (rv_cat _) (xal1 (rv_cat _) (xal1 (rv_cat _) (xal1 (rv_cat _) (xal1 rfl xal0)))))) (by decide)) (xfr g53) (xlo xsw0 (by decide) g54) (xKr hq (fun x56 h55 hq e57 => ?_) (fun _ _ q _ => q))
      replace hq := hq e57
      refine x_aload 0 dX5_variants_119 rfl ?_
      obtain ⟨g58, hq⟩ := hq
      obtain ⟨h59, e60⟩ : ∃ y, y = sR h55 x56 5125 a3 := ⟨_, rfl⟩
      replace hq := hq h59 e60
      refine x_putNR gfX5_383 xty_O dX5_variants_121 g58 (Or.inl (by rw [g58]; rfl)) rfl e60 ?_
      refine x_goto (tgt := 133) dX5_variants_124 (by decide) ?_
      refine xP.pick (lv' := [(0, rv x0), (1, rv x1), (6, rv s0), (7, rv a3)]) [2, 3, 1, 0] rfl ?_
      exact uX5_variants_133 hq
  · replace hq := hq.2 c36
    refine x_aload_n 2 dX5_variants_85 rfl ?_
    refine x_bipush (v := 7) dX5_variants_86 (by decide) ?_
    refine x_aload 1 dX5_variants_88 rfl ?_
    obtain ⟨g61, hq⟩ := hq
    obtain ⟨g62, g63, hq⟩ := hq
    refine x_callV (Yc := YX15_place) (as := []) (st := [.int 7, rv x0]) q2013 mvX15_place g61 rfl dX5_variants_90 (xle (xal1 (rv_cat _) xal0) (by decide)) (xfr g62) (xlo (xsw1 rfl (xsw1 (rv_cat _) xsw0)) (by decide) g63) (xKi hq (fun x65 h64 hq e66 => ?_) (fun _ _ q _ => q))
    replace hq := hq e66
    have t67 : tg h18 x0 = 6 := e20.tg g15 (by decide)
    have t68 : tg h23 x0 = 6 := by rw [e24]; exact t67
    have t69 : tg h27 x0 = 6 := by rw [e28]; exact t68
    have t70 : tg h33 x0 = 6 := e35.tg t69 (by decide)
    have t71 : tg h64 x0 = 6 := e66.tg t70 (by decide)
    obtain ⟨g72, g73, hq⟩ := hq
    refine x_callV (Yc := YX5_fault) (as := [.int 7, .int x65]) (st := []) q2087 mvX5_fault t71 rfl dX5_variants_93 (xle (xal1 (rv_cat _) (xal1 rfl (xal1 rfl xal0))) (by decide)) (xfr g72) (xlo xsw0 (by decide) g73) (xKr hq (fun x75 h74 hq e76 => ?_) (fun _ _ q _ => q))
    replace hq := hq e76
    obtain ⟨r77, g78, hq⟩ := hq
    rw [g78]
    exact x_athrow dX5_variants_96 hq
set_option maxRecDepth 100000 in
def bX5_variants_17 (G : xG) (fr lo : Nat) (x0 : Nat) (x1 : Nat) (x2 : Nat) (x3 : Nat) (x4 : Int32) (s0 : Int32) (h : xH) (Q : Outcome → xH → Prop) : Prop := ((s0 = 0 → tg h x2 = 16 ∧ bX5_variants_38 G fr lo x0 x1 x2 x3 x4 s0 (fR h x2 3842) h Q) ∧ (¬ s0 = 0 → tg h x2 = 16 ∧ tg h (fR h x2 3842) = 16 ∧ bX5_variants_38 G fr lo x0 x1 x2 x3 x4 s0 (fR h (fR h x2 3842) 3844) h Q))
set_option maxRecDepth 100000 in
theorem uX5_variants_17 {G : xG} {fr lo : Nat} {x0 : Nat} {x1 : Nat} {x2 : Nat} {x3 : Nat} {x4 : Int32} {s0 : Int32} {h : xH} {Q : Outcome → xH → Prop} (hq : bX5_variants_17 G fr lo x0 x1 x2 x3 x4 s0 h Q) : xP G YX5_variants fr lo 17 [(0, rv x0), (1, rv x1), (2, rv x2), (3, rv x3), (4, .int x4)] [.int s0] h Q := by
  unfold bX5_variants_17 at hq
  refine x_istore (lv' := [(5, .int s0), (0, rv x0), (1, rv x1), (2, rv x2), (3, rv x3), (4, .int x4)]) dX5_variants_17 (by decide) rfl ?_
  refine x_iload 0 dX5_variants_19 rfl ?_
  refine x_if_eq (tgt := 34) dX5_variants_21 (by decide) (fun c1 => ?_) (fun c1 => ?_)
  · replace hq := hq.1 c1
    refine x_aload_n 3 dX5_variants_34 rfl ?_
    obtain ⟨g2, hq⟩ := hq
    refine x_getN (v := rv (fR h x2 3842)) gfX5_251 dX5_variants_35 g2 rfl ?_
    refine xP.pick (lv' := [(0, rv x0), (1, rv x1), (2, rv x2), (3, rv x3), (4, .int x4), (5, .int s0)]) [1, 2, 3, 4, 5, 0] rfl ?_
    exact uX5_variants_38 hq
  · replace hq := hq.2 c1
    refine x_aload_n 3 dX5_variants_24 rfl ?_
    obtain ⟨g3, hq⟩ := hq
    refine x_getN (v := rv (fR h x2 3842)) gfX5_251 dX5_variants_25 g3 rfl ?_
    obtain ⟨g4, hq⟩ := hq
    refine x_getN (v := rv (fR h (fR h x2 3842) 3844)) gfX5_307 dX5_variants_28 g4 rfl ?_
    refine x_goto (tgt := 38) dX5_variants_31 (by decide) ?_
    refine xP.pick (lv' := [(0, rv x0), (1, rv x1), (2, rv x2), (3, rv x3), (4, .int x4), (5, .int s0)]) [1, 2, 3, 4, 5, 0] rfl ?_
    exact uX5_variants_38 hq
set_option maxRecDepth 100000 in
def bX5_variants (G : xG) (fr lo : Nat) (x0 : Nat) (x1 : Nat) (x2 : Nat) (x3 : Nat) (x4 : Int32) (h : xH) (Q : Outcome → xH → Prop) : Prop := tg h x2 = 16 ∧ tg h (fR h x2 3842) = 16 ∧ ((¬ (fI h (fR h x2 3842) 3840) = 15 → bX5_variants_17 G fr lo x0 x1 x2 x3 x4 0 h Q) ∧ ((fI h (fR h x2 3842) 3840) = 15 → bX5_variants_17 G fr lo x0 x1 x2 x3 x4 1 h Q))
set_option maxRecDepth 100000 in
theorem uX5_variants {G : xG} {fr lo : Nat} {x0 : Nat} {x1 : Nat} {x2 : Nat} {x3 : Nat} {x4 : Int32} {h : xH} {Q : Outcome → xH → Prop} (hq : bX5_variants G fr lo x0 x1 x2 x3 x4 h Q) : xP G YX5_variants fr lo 0 [(0, rv x0), (1, rv x1), (2, rv x2), (3, rv x3), (4, .int x4)] [] h Q := by
  unfold bX5_variants at hq
  refine x_aload_n 2 dX5_variants_0 rfl ?_
  obtain ⟨g1, hq⟩ := hq
  refine x_getN (v := rv (fR h x2 3842)) gfX5_251 dX5_variants_1 g1 rfl ?_
  obtain ⟨g2, hq⟩ := hq
  refine x_getN (v := .int (fI h (fR h x2 3842) 3840)) gfX5_264 dX5_variants_4 g2 rfl ?_
  refine x_bipush (v := 15) dX5_variants_7 (by decide) ?_
  refine x_icmp_ne (tgt := 16) dX5_variants_9 (by decide) (fun c3 => ?_) (fun c3 => ?_)
  · replace hq := hq.1 c3
    refine x_iconst (v := 0) dX5_variants_16 (by decide) ?_
    exact uX5_variants_17 hq
  · replace hq := hq.2 c3
    refine x_iconst (v := 1) dX5_variants_12 (by decide) ?_
    refine x_goto (tgt := 17) dX5_variants_13 (by decide) ?_
    exact uX5_variants_17 hq
theorem rX5_variants {G : xG} {fr lo : Nat} {x0 : Nat} {x1 : Nat} {x2 : Nat} {x3 : Nat} {x4 : Int32} {h : xH} {Q : Outcome → xH → Prop} (hq : bX5_variants G fr lo x0 x1 x2 x3 x4 h Q) : xR G YX5_variants fr lo [rv x0, rv x1, rv x2, rv x3, .int x4] h Q := by
  show xP _ _ _ _ _ (lv_args 0 _) _ _ _
  rw [show lv_args 0 [rv x0, rv x1, rv x2, rv x3, .int x4] = [(0, rv x0), (1, rv x1), (2, rv x2), (3, rv x3), (4, .int x4)] from (xla1 (rv_cat _) (xla1 (rv_cat _) (xla1 (rv_cat _) (xla1 (rv_cat _) (xla1 rfl xla0)))))]
  exact uX5_variants hq
set_option maxRecDepth 100000 in
theorem dX5_field_0 : decode cX5_field 0 = .ok (.aload_n 1, 1) := by decide +kernel
set_option maxRecDepth 100000 in
theorem dX5_field_1 : decode cX5_field 1 = .ok (.aload_n 2, 1) := by decide +kernel
set_option maxRecDepth 100000 in
theorem dX5_field_2 : decode cX5_field 2 = .ok (.invokevirtual 173, 3) := by decide +kernel
set_option maxRecDepth 100000 in
theorem dX5_field_5 : decode cX5_field 5 = .ok (.invokevirtual 177, 3) := by decide +kernel
set_option maxRecDepth 100000 in
theorem dX5_field_8 : decode cX5_field 8 = .ok (.ifnull 13, 3) := by decide +kernel
set_option maxRecDepth 100000 in
theorem dX5_field_11 : decode cX5_field 11 = .ok (.aload_n 0, 1) := by decide +kernel
set_option maxRecDepth 100000 in
theorem dX5_field_12 : decode cX5_field 12 = .ok (.iconst 5, 1) := by decide +kernel
set_option maxRecDepth 100000 in
theorem dX5_field_13 : decode cX5_field 13 = .ok (.aload_n 2, 1) := by decide +kernel
set_option maxRecDepth 100000 in
theorem dX5_field_14 : decode cX5_field 14 = .ok (.invokevirtual 192, 3) := by decide +kernel
set_option maxRecDepth 100000 in
theorem dX5_field_17 : decode cX5_field 17 = .ok (.invokevirtual 163, 3) := by decide +kernel
set_option maxRecDepth 100000 in
theorem dX5_field_20 : decode cX5_field 20 = .ok (.athrow, 1) := by decide +kernel
set_option maxRecDepth 100000 in
theorem dX5_field_21 : decode cX5_field 21 = .ok (.new 185, 3) := by decide +kernel
set_option maxRecDepth 100000 in
theorem dX5_field_24 : decode cX5_field 24 = .ok (.dup, 1) := by decide +kernel
set_option maxRecDepth 100000 in
theorem dX5_field_25 : decode cX5_field 25 = .ok (.aload_n 2, 1) := by decide +kernel
set_option maxRecDepth 100000 in
theorem dX5_field_26 : decode cX5_field 26 = .ok (.invokevirtual 173, 3) := by decide +kernel
set_option maxRecDepth 100000 in
theorem dX5_field_29 : decode cX5_field 29 = .ok (.aload_n 3, 1) := by decide +kernel
set_option maxRecDepth 100000 in
theorem dX5_field_30 : decode cX5_field 30 = .ok (.aload_n 1, 1) := by decide +kernel
set_option maxRecDepth 100000 in
theorem dX5_field_31 : decode cX5_field 31 = .ok (.getfield 66, 3) := by decide +kernel
set_option maxRecDepth 100000 in
theorem dX5_field_34 : decode cX5_field 34 = .ok (.aload 4, 2) := by decide +kernel
set_option maxRecDepth 100000 in
theorem dX5_field_36 : decode cX5_field 36 = .ok (.iload 5, 2) := by decide +kernel
set_option maxRecDepth 100000 in
theorem dX5_field_38 : decode cX5_field 38 = .ok (.invokespecial 364, 3) := by decide +kernel
set_option maxRecDepth 100000 in
theorem dX5_field_41 : decode cX5_field 41 = .ok (.astore 6, 2) := by decide +kernel
set_option maxRecDepth 100000 in
theorem dX5_field_43 : decode cX5_field 43 = .ok (.aload_n 1, 1) := by decide +kernel
set_option maxRecDepth 100000 in
theorem dX5_field_44 : decode cX5_field 44 = .ok (.getfield 367, 3) := by decide +kernel
set_option maxRecDepth 100000 in
theorem dX5_field_47 : decode cX5_field 47 = .ok (.aload 6, 2) := by decide +kernel
set_option maxRecDepth 100000 in
theorem dX5_field_49 : decode cX5_field 49 = .ok (.invokevirtual 120, 3) := by decide +kernel
set_option maxRecDepth 100000 in
theorem dX5_field_52 : decode cX5_field 52 = .ok (.pop, 1) := by decide +kernel
set_option maxRecDepth 100000 in
theorem dX5_field_53 : decode cX5_field 53 = .ok (.aload_n 0, 1) := by decide +kernel
set_option maxRecDepth 100000 in
theorem dX5_field_54 : decode cX5_field 54 = .ok (.aload_n 1, 1) := by decide +kernel
set_option maxRecDepth 100000 in
theorem dX5_field_55 : decode cX5_field 55 = .ok (.aload_n 3, 1) := by decide +kernel
set_option maxRecDepth 100000 in
theorem dX5_field_56 : decode cX5_field 56 = .ok (.getfield 66, 3) := by decide +kernel
set_option maxRecDepth 100000 in
theorem dX5_field_59 : decode cX5_field 59 = .ok (.invokevirtual 369, 3) := by decide +kernel
set_option maxRecDepth 100000 in
theorem dX5_field_62 : decode cX5_field 62 = .ok (.aload 6, 2) := by decide +kernel
set_option maxRecDepth 100000 in
theorem dX5_field_64 : decode cX5_field 64 = .ok (.areturn, 1) := by decide +kernel
set_option maxRecDepth 100000 in
def bX5_field (G : xG) (fr lo : Nat) (x0 : Nat) (x1 : Nat) (x2 : Nat) (x3 : Nat) (x4 : Nat) (x5 : Int32) (h : xH) (Q : Outcome → xH → Prop) : Prop := tg h x2 = 16 ∧ 1 ≤ fr ∧ 13 ≤ lo ∧ xRr G YX15_text (fr - 1) (lo - 13) [rv x2] h (fun x5 h4 => xext h h4 → tg h4 x1 = 7 ∧ 1 ≤ fr ∧ 14 ≤ lo ∧ xRr G YX6_field (fr - 1) (lo - 14) [rv x1, rv x5] h4 (fun x11 h10 => xext h4 h10 → ((x11 = 0 → nx h10 + 1 ≤ xGN G ∧ us h10 + 6 ≤ xGU G ∧ (∀ (a16 : Nat) (h17 : xH), a16 = nx h10 + 1 → h17 = nO h10 21 6 → xfresh h10 a16 → 1 ≤ fr ∧ 14 ≤ lo ∧ xRr G YX15_text (fr - 1) (lo - 14) [rv x2] h17 (fun x28 h27 => xext h17 h27 → 1 ≤ fr ∧ 18 ≤ lo ∧ xRv G YX20_init (fr - 1) (lo - 18) [rv a16, rv x28, rv x3, .int (fI h27 x1 1543), rv x4, .int x5] h27 (fun h36 => xext h27 h36 → tg h36 (fR h36 x1 1544) = 29 ∧ 1 ≤ fr ∧ 13 ≤ lo ∧ xRi G YJ2_add (fr - 1) (lo - 13) [rv (fR h36 x1 1544), rv a16] h36 (fun x44 h43 => xext h36 h43 → tg h43 x3 = 7 ∧ tg h43 x0 = 6 ∧ 1 ≤ fr ∧ 14 ≤ lo ∧ xRv G YX5_grow (fr - 1) (lo - 14) [rv x0, rv x1, .int (fI h43 x3 1543)] h43 (fun h50 => xext h43 h50 → Q (.returned (some (rv a16))) h50) (fun r h2 => Q (.threw r) h2)) (fun r h2 => Q (.threw r) h2)) (fun r h2 => Q (.threw r) h2)) (fun r h2 => Q (.threw r) h2))) ∧ (¬ x11 = 0 → 1 ≤ fr ∧ 14 ≤ lo ∧ xRi G YX15_place (fr - 1) (lo - 14) [rv x2] h10 (fun x58 h57 => xext h10 h57 → tg h57 x0 = 6 ∧ 1 ≤ fr ∧ 14 ≤ lo ∧ xRr G YX5_fault (fr - 1) (lo - 14) [rv x0, .int 5, .int x58] h57 (fun x64 h63 => xext h57 h63 → (∃ r66, x64 = r66 + 1 ∧ Q (.threw r66) h63)) (fun r h2 => Q (.threw r) h2)) (fun r h2 => Q (.threw r) h2)))) (fun r h2 => Q (.threw r) h2)) (fun r h2 => Q (.threw r) h2)
set_option maxRecDepth 100000 in
theorem uX5_field {G : xG} {fr lo : Nat} {x0 : Nat} {x1 : Nat} {x2 : Nat} {x3 : Nat} {x4 : Nat} {x5 : Int32} {h : xH} {Q : Outcome → xH → Prop} (hq : bX5_field G fr lo x0 x1 x2 x3 x4 x5 h Q) : xP G YX5_field fr lo 0 [(0, rv x0), (1, rv x1), (2, rv x2), (3, rv x3), (4, rv x4), (5, .int x5)] [] h Q := by
  unfold bX5_field at hq
  refine x_aload_n 1 dX5_field_0 rfl ?_
  refine x_aload_n 2 dX5_field_1 rfl ?_
  obtain ⟨g1, hq⟩ := hq
  obtain ⟨g2, g3, hq⟩ := hq
  refine x_callV (Yc := YX15_text) (as := []) (st := [rv x1]) q2009 mvX15_text g1 rfl dX5_field_2 (xle (xal1 (rv_cat _) xal0) (by decide)) (xfr g2) (xlo (xsw1 (rv_cat _) xsw0) (by decide) g3) (xKr hq (fun x5 h4 hq e6 => ?_) (fun _ _ q _ => q))
  replace hq := hq e6
  obtain ⟨g7, hq⟩ := hq
  obtain ⟨g8, g9, hq⟩ := hq
  refine x_callV (Yc := YX6_field) (as := [rv x5]) (st := []) q2250 mvX6_field g7 rfl dX5_field_5 (xle (xal1 (rv_cat _) (xal1 (rv_cat _) xal0)) (by decide)) (xfr g8) (xlo xsw0 (by decide) g9) (xKr hq (fun x11 h10 hq e12 => ?_) (fun _ _ q _ => q))
  replace hq := hq e12
  refine x_ifnull (tgt := 21) dX5_field_8 (by decide) (fun c13 => ?_) (fun c13 => ?_)
  · replace hq := hq.1 c13
    obtain ⟨g14, g15, hq⟩ := hq
    obtain ⟨a16, e18⟩ : ∃ y, y = nx h10 + 1 := ⟨_, rfl⟩
    obtain ⟨h17, e19⟩ : ∃ y, y = nO h10 21 6 := ⟨_, rfl⟩
    refine x_new' cdX5_185 dX5_field_21 g14 g15 e18 e19 (fun f20 => ?_)
    replace hq := hq a16 h17 e18 e19 f20
    have t21 : tg h17 a16 = 21 := by rw [e19, e18]; exact tg_nO
    refine x_dup dX5_field_24 (rv_cat _) ?_
    refine x_aload_n 2 dX5_field_25 rfl ?_
    have t22 : tg h4 x2 = 16 := e6.tg g1 (by decide)
    have t23 : tg h10 x2 = 16 := e12.tg t22 (by decide)
    have t24 : tg h17 x2 = 16 := by rw [e19]; exact tg_nO_ne e18 f20 t23 (by decide)
    obtain ⟨g25, g26, hq⟩ := hq
    refine x_callV (Yc := YX15_text) (as := []) (st := [rv a16, rv a16]) q2009 mvX15_text t24 rfl dX5_field_26 (xle (xal1 (rv_cat _) xal0) (by decide)) (xfr g25) (xlo (xsw1 (rv_cat _) (xsw1 (rv_cat _) xsw0)) (by decide) g26) (xKr hq (fun x28 h27 hq e29 => ?_) (fun _ _ q _ => q))
    replace hq := hq e29
    refine x_aload_n 3 dX5_field_29 rfl ?_
    refine x_aload_n 1 dX5_field_30 rfl ?_
    have t30 : tg h10 x1 = 7 := e12.tg g7 (by decide)
    have t31 : tg h17 x1 = 7 := by rw [e19]; exact tg_nO_ne e18 f20 t30 (by decide)
    have t32 : tg h27 x1 = 7 := e29.tg t31 (by decide)
    refine x_getN (v := .int (fI h27 x1 1543)) gfX5_66 dX5_field_31 t32 rfl ?_
    refine x_aload 4 dX5_field_34 rfl ?_
    refine x_iload 5 dX5_field_36 rfl ?_
    have t33 : tg h27 a16 = 21 := e29.tg t21 (by decide)
    obtain ⟨g34, g35, hq⟩ := hq
    refine x_callI (Yc := YX20_init) (as := [rv x28, rv x3, .int (fI h27 x1 1543), rv x4, .int x5]) (st := [rv a16]) q2367 miX20_init (by rw [t33]; decide) rfl dX5_field_38 (xle (xal1 (rv_cat _) (xal1 (rv_cat _) (xal1 (rv_cat _) (xal1 rfl (xal1 (rv_cat _) (xal1 rfl xal0)))))) (by decide)) (xfr g34) (xlo (xsw1 (rv_cat _) xsw0) (by decide) g35) (xKv hq (fun h36 hq e38 => ?_) (fun _ _ q _ => q))
    replace hq := hq e38
    refine x_astore (lv' := [(6, rv a16), (0, rv x0), (1, rv x1), (2, rv x2), (3, rv x3), (4, rv x4), (5, .int x5)]) dX5_field_41 (by decide) rfl ?_
    refine x_aload_n 2 dX5_field_43 rfl ?_
    have t39 : tg h36 x1 = 7 := e38.tg t32 (by decide)
    refine x_getN (v := rv (fR h36 x1 1544)) gfX5_367 dX5_field_44 t39 rfl ?_
    refine x_aload 0 dX5_field_47 rfl ?_
    obtain ⟨g40, hq⟩ := hq
    obtain ⟨g41, g42, hq⟩ := hq
    refine x_callV (Yc := YJ2_add) (as := [rv a16]) (st := []) q1009 mvJ2_add g40 rfl dX5_field_49 (xle (xal1 (rv_cat _) (xal1 (rv_cat _) xal0)) (by decide)) (xfr g41) (xlo xsw0 (by decide) g42) (xKi hq (fun x44 h43 hq e45 => ?_) (fun _ _ q _ => q))
    replace hq := hq e45
    refine x_pop dX5_field_52 rfl ?_
    refine x_aload_n 1 dX5_field_53 rfl ?_
    refine x_aload_n 2 dX5_field_54 rfl ?_
    refine x_aload_n 4 dX5_field_55 rfl ?_
    obtain ⟨g46, hq⟩ := hq
    refine x_getN (v := .int (fI h43 x3 1543)) gfX5_66 dX5_field_56 g46 rfl ?_
    obtain ⟨g47, hq⟩ := hq
    obtain ⟨g48, g49, hq⟩ := hq
    refine x_callV (Yc := YX5_grow) (as := [rv x1, .int (fI h43 x3 1543)]) (st := []) q2395 mvX5_grow g47 rfl dX5_field_59 (xle (xal1 (rv_cat _) (xal1 (rv_cat _) (xal1 rfl xal0))) (by decide)) (xfr g48) (xlo xsw0 (by decide) g49) (xKv hq (fun h50 hq e52 => ?_) (fun _ _ q _ => q))
    replace hq := hq e52
    refine x_aload 0 dX5_field_62 rfl ?_
    exact x_aret rfl xty_O dX5_field_64 hq
  · replace hq := hq.2 c13
    refine x_aload_n 0 dX5_field_11 rfl ?_
    refine x_iconst (v := 5) dX5_field_12 (by decide) ?_
    refine x_aload_n 2 dX5_field_13 rfl ?_
    have t53 : tg h4 x2 = 16 := e6.tg g1 (by decide)
    have t54 : tg h10 x2 = 16 := e12.tg t53 (by decide)
    obtain ⟨g55, g56, hq⟩ := hq
    refine x_callV (Yc := YX15_place) (as := []) (st := [.int 5, rv x0]) q2013 mvX15_place t54 rfl dX5_field_14 (xle (xal1 (rv_cat _) xal0) (by decide)) (xfr g55) (xlo (xsw1 rfl (xsw1 (rv_cat _) xsw0)) (by decide) g56) (xKi hq (fun x58 h57 hq e59 => ?_) (fun _ _ q _ => q))
    replace hq := hq e59
    obtain ⟨g60, hq⟩ := hq
    obtain ⟨g61, g62, hq⟩ := hq
    refine x_callV (Yc := YX5_fault) (as := [.int 5, .int x58]) (st := []) q2087 mvX5_fault g60 rfl dX5_field_17 (xle (xal1 (rv_cat _) (xal1 rfl (xal1 rfl xal0))) (by decide)) (xfr g61) (xlo xsw0 (by decide) g62) (xKr hq (fun x64 h63 hq e65 => ?_) (fun _ _ q _ => q))
    replace hq := hq e65
    obtain ⟨r66, g67, hq⟩ := hq
    rw [g67]
    exact x_athrow dX5_field_20 hq
theorem rX5_field {G : xG} {fr lo : Nat} {x0 : Nat} {x1 : Nat} {x2 : Nat} {x3 : Nat} {x4 : Nat} {x5 : Int32} {h : xH} {Q : Outcome → xH → Prop} (hq : bX5_field G fr lo x0 x1 x2 x3 x4 x5 h Q) : xR G YX5_field fr lo [rv x0, rv x1, rv x2, rv x3, rv x4, .int x5] h Q := by
  show xP _ _ _ _ _ (lv_args 0 _) _ _ _
  rw [show lv_args 0 [rv x0, rv x1, rv x2, rv x3, rv x4, .int x5] = [(0, rv x0), (1, rv x1), (2, rv x2), (3, rv x3), (4, rv x4), (5, .int x5)] from (xla1 (rv_cat _) (xla1 (rv_cat _) (xla1 (rv_cat _) (xla1 (rv_cat _) (xla1 (rv_cat _) (xla1 rfl xla0))))))]
  exact uX5_field hq
set_option maxRecDepth 100000 in
theorem dX5_grow_0 : decode cX5_grow 0 = .ok (.aload_n 1, 1) := by decide +kernel
set_option maxRecDepth 100000 in
theorem dX5_grow_1 : decode cX5_grow 1 = .ok (.aload_n 1, 1) := by decide +kernel
set_option maxRecDepth 100000 in
theorem dX5_grow_2 : decode cX5_grow 2 = .ok (.getfield 66, 3) := by decide +kernel
set_option maxRecDepth 100000 in
theorem dX5_grow_5 : decode cX5_grow 5 = .ok (.iload_n 2, 1) := by decide +kernel
set_option maxRecDepth 100000 in
theorem dX5_grow_6 : decode cX5_grow 6 = .ok (.iadd, 1) := by decide +kernel
set_option maxRecDepth 100000 in
theorem dX5_grow_7 : decode cX5_grow 7 = .ok (.ldc_w 373, 3) := by decide +kernel
set_option maxRecDepth 100000 in
theorem dX5_grow_10 : decode cX5_grow 10 = .ok (.if_icmp .le 9, 3) := by decide +kernel
set_option maxRecDepth 100000 in
theorem dX5_grow_13 : decode cX5_grow 13 = .ok (.ldc_w 373, 3) := by decide +kernel
set_option maxRecDepth 100000 in
theorem dX5_grow_16 : decode cX5_grow 16 = .ok (.goto 9, 3) := by decide +kernel
set_option maxRecDepth 100000 in
theorem dX5_grow_19 : decode cX5_grow 19 = .ok (.aload_n 1, 1) := by decide +kernel
set_option maxRecDepth 100000 in
theorem dX5_grow_20 : decode cX5_grow 20 = .ok (.getfield 66, 3) := by decide +kernel
set_option maxRecDepth 100000 in
theorem dX5_grow_23 : decode cX5_grow 23 = .ok (.iload_n 2, 1) := by decide +kernel
set_option maxRecDepth 100000 in
theorem dX5_grow_24 : decode cX5_grow 24 = .ok (.iadd, 1) := by decide +kernel
set_option maxRecDepth 100000 in
theorem dX5_grow_25 : decode cX5_grow 25 = .ok (.putfield 66, 3) := by decide +kernel
set_option maxRecDepth 100000 in
theorem dX5_grow_28 : decode cX5_grow 28 = .ok (.return_, 1) := by decide +kernel
set_option maxRecDepth 100000 in
def bX5_grow_25 (G : xG) (fr lo : Nat) (s0 : Int32) (s1 : Nat) (h : xH) (Q : Outcome → xH → Prop) : Prop := tg h s1 = 7 ∧ (∀ h2 : xH, h2 = sI h s1 1543 s0 → Q (.returned none) h2)
set_option maxRecDepth 100000 in
theorem uX5_grow_25 {G : xG} {fr lo : Nat} {s0 : Int32} {s1 : Nat} {h : xH} {Q : Outcome → xH → Prop} (hq : bX5_grow_25 G fr lo s0 s1 h Q) : xP G YX5_grow fr lo 25 [] [.int s0, rv s1] h Q := by
  unfold bX5_grow_25 at hq
  obtain ⟨g1, hq⟩ := hq
  obtain ⟨h2, e3⟩ : ∃ y, y = sI h s1 1543 s0 := ⟨_, rfl⟩
  replace hq := hq h2 e3
  refine x_putNI gfX5_66 xty_I1 dX5_grow_25 g1 (Or.inl (by rw [g1]; rfl)) xnI rfl e3 ?_
  exact x_vret rfl dX5_grow_28 hq
set_option maxRecDepth 100000 in
def bX5_grow (G : xG) (fr lo : Nat) (x0 : Nat) (x1 : Nat) (x2 : Int32) (h : xH) (Q : Outcome → xH → Prop) : Prop := tg h x1 = 7 ∧ ((((fI h x1 1543) + x2) ≤ 100000 → bX5_grow_25 G fr lo ((fI h x1 1543) + x2) x1 h Q) ∧ (¬ ((fI h x1 1543) + x2) ≤ 100000 → bX5_grow_25 G fr lo 100000 x1 h Q))
set_option maxRecDepth 100000 in
theorem uX5_grow {G : xG} {fr lo : Nat} {x0 : Nat} {x1 : Nat} {x2 : Int32} {h : xH} {Q : Outcome → xH → Prop} (hq : bX5_grow G fr lo x0 x1 x2 h Q) : xP G YX5_grow fr lo 0 [(0, rv x0), (1, rv x1), (2, .int x2)] [] h Q := by
  unfold bX5_grow at hq
  refine x_aload_n 1 dX5_grow_0 rfl ?_
  refine x_aload_n 1 dX5_grow_1 rfl ?_
  obtain ⟨g1, hq⟩ := hq
  refine x_getN (v := .int (fI h x1 1543)) gfX5_66 dX5_grow_2 g1 rfl ?_
  refine x_iload_n 2 dX5_grow_5 rfl ?_
  refine x_iadd dX5_grow_6 ?_
  refine x_ldcw (v := 100000) q2399 dX5_grow_7 ?_
  refine x_icmp_le (tgt := 19) dX5_grow_10 (by decide) (fun c2 => ?_) (fun c2 => ?_)
  · replace hq := hq.1 c2
    refine x_aload_n 1 dX5_grow_19 rfl ?_
    refine x_getN (v := .int (fI h x1 1543)) gfX5_66 dX5_grow_20 g1 rfl ?_
    refine x_iload_n 2 dX5_grow_23 rfl ?_
    refine x_iadd dX5_grow_24 ?_
    refine xP.pick (lv' := []) [] rfl ?_
    exact uX5_grow_25 hq
  · replace hq := hq.2 c2
    refine x_ldcw (v := 100000) q2399 dX5_grow_13 ?_
    refine x_goto (tgt := 25) dX5_grow_16 (by decide) ?_
    refine xP.pick (lv' := []) [] rfl ?_
    exact uX5_grow_25 hq
theorem rX5_grow {G : xG} {fr lo : Nat} {x0 : Nat} {x1 : Nat} {x2 : Int32} {h : xH} {Q : Outcome → xH → Prop} (hq : bX5_grow G fr lo x0 x1 x2 h Q) : xR G YX5_grow fr lo [rv x0, rv x1, .int x2] h Q := by
  show xP _ _ _ _ _ (lv_args 0 _) _ _ _
  rw [show lv_args 0 [rv x0, rv x1, .int x2] = [(0, rv x0), (1, rv x1), (2, .int x2)] from (xla1 (rv_cat _) (xla1 (rv_cat _) (xla1 rfl xla0)))]
  exact uX5_grow hq
set_option maxRecDepth 100000 in
theorem dX5_set_0 : decode cX5_set 0 = .ok (.aload_n 0, 1) := by decide +kernel
set_option maxRecDepth 100000 in
theorem dX5_set_1 : decode cX5_set 1 = .ok (.aload_n 1, 1) := by decide +kernel
set_option maxRecDepth 100000 in
theorem dX5_set_2 : decode cX5_set 2 = .ok (.getfield 251, 3) := by decide +kernel
set_option maxRecDepth 100000 in
theorem dX5_set_5 : decode cX5_set 5 = .ok (.invokevirtual 283, 3) := by decide +kernel
set_option maxRecDepth 100000 in
theorem dX5_set_8 : decode cX5_set 8 = .ok (.astore_n 2, 1) := by decide +kernel
set_option maxRecDepth 100000 in
theorem dX5_set_9 : decode cX5_set 9 = .ok (.aload_n 2, 1) := by decide +kernel
set_option maxRecDepth 100000 in
theorem dX5_set_10 : decode cX5_set 10 = .ok (.invokevirtual 318, 3) := by decide +kernel
set_option maxRecDepth 100000 in
theorem dX5_set_13 : decode cX5_set 13 = .ok (.ifCond .ne 14, 3) := by decide +kernel
set_option maxRecDepth 100000 in
theorem dX5_set_16 : decode cX5_set 16 = .ok (.aload_n 0, 1) := by decide +kernel
set_option maxRecDepth 100000 in
theorem dX5_set_17 : decode cX5_set 17 = .ok (.bipush 7, 2) := by decide +kernel
set_option maxRecDepth 100000 in
theorem dX5_set_19 : decode cX5_set 19 = .ok (.aload_n 1, 1) := by decide +kernel
set_option maxRecDepth 100000 in
theorem dX5_set_20 : decode cX5_set 20 = .ok (.invokevirtual 192, 3) := by decide +kernel
set_option maxRecDepth 100000 in
theorem dX5_set_23 : decode cX5_set 23 = .ok (.invokevirtual 163, 3) := by decide +kernel
set_option maxRecDepth 100000 in
theorem dX5_set_26 : decode cX5_set 26 = .ok (.athrow, 1) := by decide +kernel
set_option maxRecDepth 100000 in
theorem dX5_set_27 : decode cX5_set 27 = .ok (.aload_n 2, 1) := by decide +kernel
set_option maxRecDepth 100000 in
theorem dX5_set_28 : decode cX5_set 28 = .ok (.getfield 338, 3) := by decide +kernel
set_option maxRecDepth 100000 in
theorem dX5_set_31 : decode cX5_set 31 = .ok (.ifCond .lt 12, 3) := by decide +kernel
set_option maxRecDepth 100000 in
theorem dX5_set_34 : decode cX5_set 34 = .ok (.aload_n 2, 1) := by decide +kernel
set_option maxRecDepth 100000 in
theorem dX5_set_35 : decode cX5_set 35 = .ok (.getfield 335, 3) := by decide +kernel
set_option maxRecDepth 100000 in
theorem dX5_set_38 : decode cX5_set 38 = .ok (.bipush 127, 2) := by decide +kernel
set_option maxRecDepth 100000 in
theorem dX5_set_40 : decode cX5_set 40 = .ok (.if_icmp .le 14, 3) := by decide +kernel
set_option maxRecDepth 100000 in
theorem dX5_set_43 : decode cX5_set 43 = .ok (.aload_n 0, 1) := by decide +kernel
set_option maxRecDepth 100000 in
theorem dX5_set_44 : decode cX5_set 44 = .ok (.bipush 8, 2) := by decide +kernel
set_option maxRecDepth 100000 in
theorem dX5_set_46 : decode cX5_set 46 = .ok (.aload_n 1, 1) := by decide +kernel
set_option maxRecDepth 100000 in
theorem dX5_set_47 : decode cX5_set 47 = .ok (.invokevirtual 192, 3) := by decide +kernel
set_option maxRecDepth 100000 in
theorem dX5_set_50 : decode cX5_set 50 = .ok (.invokevirtual 163, 3) := by decide +kernel
set_option maxRecDepth 100000 in
theorem dX5_set_53 : decode cX5_set 53 = .ok (.athrow, 1) := by decide +kernel
set_option maxRecDepth 100000 in
theorem dX5_set_54 : decode cX5_set 54 = .ok (.new 9, 3) := by decide +kernel
set_option maxRecDepth 100000 in
theorem dX5_set_57 : decode cX5_set 57 = .ok (.dup, 1) := by decide +kernel
set_option maxRecDepth 100000 in
theorem dX5_set_58 : decode cX5_set 58 = .ok (.bipush 8, 2) := by decide +kernel
set_option maxRecDepth 100000 in
theorem dX5_set_60 : decode cX5_set 60 = .ok (.invokespecial 11, 3) := by decide +kernel
set_option maxRecDepth 100000 in
theorem dX5_set_63 : decode cX5_set 63 = .ok (.aload_n 2, 1) := by decide +kernel
set_option maxRecDepth 100000 in
theorem dX5_set_64 : decode cX5_set 64 = .ok (.invokevirtual 35, 3) := by decide +kernel
set_option maxRecDepth 100000 in
theorem dX5_set_67 : decode cX5_set 67 = .ok (.areturn, 1) := by decide +kernel
set_option maxRecDepth 100000 in
def bX5_set_43 (G : xG) (fr lo : Nat) (x0 : Nat) (x1 : Nat) (h : xH) (Q : Outcome → xH → Prop) : Prop := tg h x1 = 16 ∧ 1 ≤ fr ∧ 14 ≤ lo ∧ xRi G YX15_place (fr - 1) (lo - 14) [rv x1] h (fun x5 h4 => xext h h4 → tg h4 x0 = 6 ∧ 1 ≤ fr ∧ 14 ≤ lo ∧ xRr G YX5_fault (fr - 1) (lo - 14) [rv x0, .int 8, .int x5] h4 (fun x11 h10 => xext h4 h10 → (∃ r13, x11 = r13 + 1 ∧ Q (.threw r13) h10)) (fun r h2 => Q (.threw r) h2)) (fun r h2 => Q (.threw r) h2)
set_option maxRecDepth 100000 in
theorem uX5_set_43 {G : xG} {fr lo : Nat} {x0 : Nat} {x1 : Nat} {h : xH} {Q : Outcome → xH → Prop} (hq : bX5_set_43 G fr lo x0 x1 h Q) : xP G YX5_set fr lo 43 [(0, rv x0), (1, rv x1)] [] h Q := by
  unfold bX5_set_43 at hq
  refine x_aload_n 0 dX5_set_43 rfl ?_
  refine x_bipush (v := 8) dX5_set_44 (by decide) ?_
  refine x_aload_n 1 dX5_set_46 rfl ?_
  obtain ⟨g1, hq⟩ := hq
  obtain ⟨g2, g3, hq⟩ := hq
  refine x_callV (Yc := YX15_place) (as := []) (st := [.int 8, rv x0]) q2013 mvX15_place g1 rfl dX5_set_47 (xle (xal1 (rv_cat _) xal0) (by decide)) (xfr g2) (xlo (xsw1 rfl (xsw1 (rv_cat _) xsw0)) (by decide) g3) (xKi hq (fun x5 h4 hq e6 => ?_) (fun _ _ q _ => q))
  replace hq := hq e6
  obtain ⟨g7, hq⟩ := hq
  obtain ⟨g8, g9, hq⟩ := hq
  refine x_callV (Yc := YX5_fault) (as := [.int 8, .int x5]) (st := []) q2087 mvX5_fault g7 rfl dX5_set_50 (xle (xal1 (rv_cat _) (xal1 rfl (xal1 rfl xal0))) (by decide)) (xfr g8) (xlo xsw0 (by decide) g9) (xKr hq (fun x11 h10 hq e12 => ?_) (fun _ _ q _ => q))
  replace hq := hq e12
  obtain ⟨r13, g14, hq⟩ := hq
  rw [g14]
  exact x_athrow dX5_set_53 hq
set_option maxRecDepth 100000 in
def bX5_set (G : xG) (fr lo : Nat) (x0 : Nat) (x1 : Nat) (h : xH) (Q : Outcome → xH → Prop) : Prop := tg h x1 = 16 ∧ tg h x0 = 6 ∧ 1 ≤ fr ∧ 14 ≤ lo ∧ xRr G YX5_typeOf (fr - 1) (lo - 14) [rv x0, rv (fR h x1 3842)] h (fun x6 h5 => xext h h5 → tg h5 x6 = 7 ∧ 1 ≤ fr ∧ 12 ≤ lo ∧ xRi G YX6_isOrdinal (fr - 1) (lo - 12) [rv x6] h5 (fun x12 h11 => xext h5 h11 → ((¬ x12 = 0 → (((fI h11 x6 1541) < 0 → bX5_set_43 G fr lo x0 x1 h11 Q) ∧ (¬ (fI h11 x6 1541) < 0 → (((fI h11 x6 1542) ≤ 127 → nx h11 + 1 ≤ xGN G ∧ us h11 + 9 ≤ xGU G ∧ (∀ (a20 : Nat) (h21 : xH), a20 = nx h11 + 1 → h21 = nO h11 7 9 → xfresh h11 a20 → 1 ≤ fr ∧ 14 ≤ lo ∧ xRv G YX6_init (fr - 1) (lo - 14) [rv a20, .int 8] h21 (fun h28 => xext h21 h28 → 1 ≤ fr ∧ 13 ≤ lo ∧ xRr G YX6_of (fr - 1) (lo - 13) [rv a20, rv x6] h28 (fun x35 h34 => xext h28 h34 → Q (.returned (some (rv x35))) h34) (fun r h2 => Q (.threw r) h2)) (fun r h2 => Q (.threw r) h2))) ∧ (¬ (fI h11 x6 1542) ≤ 127 → bX5_set_43 G fr lo x0 x1 h11 Q))))) ∧ (x12 = 0 → 1 ≤ fr ∧ 14 ≤ lo ∧ xRi G YX15_place (fr - 1) (lo - 14) [rv x1] h11 (fun x42 h41 => xext h11 h41 → 1 ≤ fr ∧ 14 ≤ lo ∧ xRr G YX5_fault (fr - 1) (lo - 14) [rv x0, .int 7, .int x42] h41 (fun x50 h49 => xext h41 h49 → (∃ r52, x50 = r52 + 1 ∧ Q (.threw r52) h49)) (fun r h2 => Q (.threw r) h2)) (fun r h2 => Q (.threw r) h2)))) (fun r h2 => Q (.threw r) h2)) (fun r h2 => Q (.threw r) h2)
set_option maxRecDepth 100000 in
theorem uX5_set {G : xG} {fr lo : Nat} {x0 : Nat} {x1 : Nat} {h : xH} {Q : Outcome → xH → Prop} (hq : bX5_set G fr lo x0 x1 h Q) : xP G YX5_set fr lo 0 [(0, rv x0), (1, rv x1)] [] h Q := by
  unfold bX5_set at hq
  refine x_aload_n 0 dX5_set_0 rfl ?_
  refine x_aload_n 1 dX5_set_1 rfl ?_
  obtain ⟨g1, hq⟩ := hq
  refine x_getN (v := rv (fR h x1 3842)) gfX5_251 dX5_set_2 g1 rfl ?_
  obtain ⟨g2, hq⟩ := hq
  obtain ⟨g3, g4, hq⟩ := hq
  refine x_callV (Yc := YX5_typeOf) (as := [rv (fR h x1 3842)]) (st := []) q2272 mvX5_typeOf g2 rfl dX5_set_5 (xle (xal1 (rv_cat _) (xal1 (rv_cat _) xal0)) (by decide)) (xfr g3) (xlo xsw0 (by decide) g4) (xKr hq (fun x6 h5 hq e7 => ?_) (fun _ _ q _ => q))
  replace hq := hq e7
  refine x_astore_n (lv' := [(2, rv x6), (0, rv x0), (1, rv x1)]) dX5_set_8 (by decide) (by first | rfl | (simp [rv_cat, Value.category]; done) | (simp [rv_cat, Value.category]; decide)) ?_
  refine x_aload_n 0 dX5_set_9 rfl ?_
  obtain ⟨g8, hq⟩ := hq
  obtain ⟨g9, g10, hq⟩ := hq
  refine x_callV (Yc := YX6_isOrdinal) (as := []) (st := []) q2288 mvX6_isOrdinal g8 rfl dX5_set_10 (xle (xal1 (rv_cat _) xal0) (by decide)) (xfr g9) (xlo xsw0 (by decide) g10) (xKi hq (fun x12 h11 hq e13 => ?_) (fun _ _ q _ => q))
  replace hq := hq e13
  refine x_if_ne (tgt := 27) dX5_set_13 (by decide) (fun c14 => ?_) (fun c14 => ?_)
  · replace hq := hq.1 c14
    refine x_aload_n 0 dX5_set_27 rfl ?_
    have t15 : tg h11 x6 = 7 := e13.tg g8 (by decide)
    refine x_getN (v := .int (fI h11 x6 1541)) gfX5_338 dX5_set_28 t15 rfl ?_
    refine x_if_lt (tgt := 43) dX5_set_31 (by decide) (fun c16 => ?_) (fun c16 => ?_)
    · replace hq := hq.1 c16
      refine xP.pick (lv' := [(0, rv x0), (1, rv x1)]) [1, 2] rfl ?_
      exact uX5_set_43 hq
    · replace hq := hq.2 c16
      refine x_aload_n 0 dX5_set_34 rfl ?_
      refine x_getN (v := .int (fI h11 x6 1542)) gfX5_335 dX5_set_35 t15 rfl ?_
      refine x_bipush (v := 127) dX5_set_38 (by decide) ?_
      refine x_icmp_le (tgt := 54) dX5_set_40 (by decide) (fun c17 => ?_) (fun c17 => ?_)
      · replace hq := hq.1 c17
        obtain ⟨g18, g19, hq⟩ := hq
        obtain ⟨a20, e22⟩ : ∃ y, y = nx h11 + 1 := ⟨_, rfl⟩
        obtain ⟨h21, e23⟩ : ∃ y, y = nO h11 7 9 := ⟨_, rfl⟩
        refine x_new' cdX5_9 dX5_set_54 g18 g19 e22 e23 (fun f24 => ?_)
        replace hq := hq a20 h21 e22 e23 f24
        have t25 : tg h21 a20 = 7 := by rw [e23, e22]; exact tg_nO
        refine x_dup dX5_set_57 (rv_cat _) ?_
        refine x_bipush (v := 8) dX5_set_58 (by decide) ?_
        obtain ⟨g26, g27, hq⟩ := hq
        refine x_callI (Yc := YX6_init) (as := [.int 8]) (st := [rv a20]) q689 miX6_init (by rw [t25]; decide) rfl dX5_set_60 (xle (xal1 (rv_cat _) (xal1 rfl xal0)) (by decide)) (xfr g26) (xlo (xsw1 (rv_cat _) xsw0) (by decide) g27) (xKv hq (fun h28 hq e30 => ?_) (fun _ _ q _ => q))
        replace hq := hq e30
        refine x_aload_n 0 dX5_set_63 rfl ?_
        have t31 : tg h28 a20 = 7 := e30.tg t25 (by decide)
        obtain ⟨g32, g33, hq⟩ := hq
        refine x_callV (Yc := YX6_of) (as := [rv x6]) (st := []) q740 mvX6_of t31 rfl dX5_set_64 (xle (xal1 (rv_cat _) (xal1 (rv_cat _) xal0)) (by decide)) (xfr g32) (xlo xsw0 (by decide) g33) (xKr hq (fun x35 h34 hq e36 => ?_) (fun _ _ q _ => q))
        replace hq := hq e36
        exact x_aret rfl xty_O dX5_set_67 hq
      · replace hq := hq.2 c17
        refine xP.pick (lv' := [(0, rv x0), (1, rv x1)]) [1, 2] rfl ?_
        exact uX5_set_43 hq
  · replace hq := hq.2 c14
    refine x_aload_n 1 dX5_set_16 rfl ?_
    refine x_bipush (v := 7) dX5_set_17 (by decide) ?_
    refine x_aload_n 2 dX5_set_19 rfl ?_
    have t37 : tg h5 x1 = 16 := e7.tg g1 (by decide)
    have t38 : tg h11 x1 = 16 := e13.tg t37 (by decide)
    obtain ⟨g39, g40, hq⟩ := hq
    refine x_callV (Yc := YX15_place) (as := []) (st := [.int 7, rv x0]) q2013 mvX15_place t38 rfl dX5_set_20 (xle (xal1 (rv_cat _) xal0) (by decide)) (xfr g39) (xlo (xsw1 rfl (xsw1 (rv_cat _) xsw0)) (by decide) g40) (xKi hq (fun x42 h41 hq e43 => ?_) (fun _ _ q _ => q))
    replace hq := hq e43
    have t44 : tg h5 x0 = 6 := e7.tg g2 (by decide)
    have t45 : tg h11 x0 = 6 := e13.tg t44 (by decide)
    have t46 : tg h41 x0 = 6 := e43.tg t45 (by decide)
    obtain ⟨g47, g48, hq⟩ := hq
    refine x_callV (Yc := YX5_fault) (as := [.int 7, .int x42]) (st := []) q2087 mvX5_fault t46 rfl dX5_set_23 (xle (xal1 (rv_cat _) (xal1 rfl (xal1 rfl xal0))) (by decide)) (xfr g47) (xlo xsw0 (by decide) g48) (xKr hq (fun x50 h49 hq e51 => ?_) (fun _ _ q _ => q))
    replace hq := hq e51
    obtain ⟨r52, g53, hq⟩ := hq
    rw [g53]
    exact x_athrow dX5_set_26 hq
theorem rX5_set {G : xG} {fr lo : Nat} {x0 : Nat} {x1 : Nat} {h : xH} {Q : Outcome → xH → Prop} (hq : bX5_set G fr lo x0 x1 h Q) : xR G YX5_set fr lo [rv x0, rv x1] h Q := by
  show xP _ _ _ _ _ (lv_args 0 _) _ _ _
  rw [show lv_args 0 [rv x0, rv x1] = [(0, rv x0), (1, rv x1)] from (xla1 (rv_cat _) (xla1 (rv_cat _) xla0))]
  exact uX5_set hq
set_option maxRecDepth 100000 in
theorem dX5_pointer_0 : decode cX5_pointer 0 = .ok (.new 9, 3) := by decide +kernel
set_option maxRecDepth 100000 in
theorem dX5_pointer_3 : decode cX5_pointer 3 = .ok (.dup, 1) := by decide +kernel
set_option maxRecDepth 100000 in
theorem dX5_pointer_4 : decode cX5_pointer 4 = .ok (.bipush 9, 2) := by decide +kernel
set_option maxRecDepth 100000 in
theorem dX5_pointer_6 : decode cX5_pointer 6 = .ok (.invokespecial 11, 3) := by decide +kernel
set_option maxRecDepth 100000 in
theorem dX5_pointer_9 : decode cX5_pointer 9 = .ok (.astore_n 2, 1) := by decide +kernel
set_option maxRecDepth 100000 in
theorem dX5_pointer_10 : decode cX5_pointer 10 = .ok (.aload_n 0, 1) := by decide +kernel
set_option maxRecDepth 100000 in
theorem dX5_pointer_11 : decode cX5_pointer 11 = .ok (.getfield 346, 3) := by decide +kernel
set_option maxRecDepth 100000 in
theorem dX5_pointer_14 : decode cX5_pointer 14 = .ok (.ifCond .eq 27, 3) := by decide +kernel
set_option maxRecDepth 100000 in
theorem dX5_pointer_17 : decode cX5_pointer 17 = .ok (.aload_n 0, 1) := by decide +kernel
set_option maxRecDepth 100000 in
theorem dX5_pointer_18 : decode cX5_pointer 18 = .ok (.getfield 51, 3) := by decide +kernel
set_option maxRecDepth 100000 in
theorem dX5_pointer_21 : decode cX5_pointer 21 = .ok (.aload_n 2, 1) := by decide +kernel
set_option maxRecDepth 100000 in
theorem dX5_pointer_22 : decode cX5_pointer 22 = .ok (.invokevirtual 120, 3) := by decide +kernel
set_option maxRecDepth 100000 in
theorem dX5_pointer_25 : decode cX5_pointer 25 = .ok (.pop, 1) := by decide +kernel
set_option maxRecDepth 100000 in
theorem dX5_pointer_26 : decode cX5_pointer 26 = .ok (.aload_n 0, 1) := by decide +kernel
set_option maxRecDepth 100000 in
theorem dX5_pointer_27 : decode cX5_pointer 27 = .ok (.getfield 55, 3) := by decide +kernel
set_option maxRecDepth 100000 in
theorem dX5_pointer_30 : decode cX5_pointer 30 = .ok (.aload_n 1, 1) := by decide +kernel
set_option maxRecDepth 100000 in
theorem dX5_pointer_31 : decode cX5_pointer 31 = .ok (.getfield 251, 3) := by decide +kernel
set_option maxRecDepth 100000 in
theorem dX5_pointer_34 : decode cX5_pointer 34 = .ok (.invokevirtual 120, 3) := by decide +kernel
set_option maxRecDepth 100000 in
theorem dX5_pointer_37 : decode cX5_pointer 37 = .ok (.pop, 1) := by decide +kernel
set_option maxRecDepth 100000 in
theorem dX5_pointer_38 : decode cX5_pointer 38 = .ok (.goto 20, 3) := by decide +kernel
set_option maxRecDepth 100000 in
theorem dX5_pointer_41 : decode cX5_pointer 41 = .ok (.aload_n 0, 1) := by decide +kernel
set_option maxRecDepth 100000 in
theorem dX5_pointer_42 : decode cX5_pointer 42 = .ok (.aload_n 2, 1) := by decide +kernel
set_option maxRecDepth 100000 in
theorem dX5_pointer_43 : decode cX5_pointer 43 = .ok (.aload_n 0, 1) := by decide +kernel
set_option maxRecDepth 100000 in
theorem dX5_pointer_44 : decode cX5_pointer 44 = .ok (.aload_n 1, 1) := by decide +kernel
set_option maxRecDepth 100000 in
theorem dX5_pointer_45 : decode cX5_pointer 45 = .ok (.getfield 251, 3) := by decide +kernel
set_option maxRecDepth 100000 in
theorem dX5_pointer_48 : decode cX5_pointer 48 = .ok (.invokevirtual 265, 3) := by decide +kernel
set_option maxRecDepth 100000 in
theorem dX5_pointer_51 : decode cX5_pointer 51 = .ok (.aload_n 1, 1) := by decide +kernel
set_option maxRecDepth 100000 in
theorem dX5_pointer_52 : decode cX5_pointer 52 = .ok (.getfield 251, 3) := by decide +kernel
set_option maxRecDepth 100000 in
theorem dX5_pointer_55 : decode cX5_pointer 55 = .ok (.invokevirtual 350, 3) := by decide +kernel
set_option maxRecDepth 100000 in
theorem dX5_pointer_58 : decode cX5_pointer 58 = .ok (.aload_n 2, 1) := by decide +kernel
set_option maxRecDepth 100000 in
theorem dX5_pointer_59 : decode cX5_pointer 59 = .ok (.areturn, 1) := by decide +kernel
set_option maxRecDepth 100000 in
def bX5_pointer_58 (G : xG) (fr lo : Nat) (x2 : Nat) (h : xH) (Q : Outcome → xH → Prop) : Prop := Q (.returned (some (rv x2))) h
set_option maxRecDepth 100000 in
theorem uX5_pointer_58 {G : xG} {fr lo : Nat} {x2 : Nat} {h : xH} {Q : Outcome → xH → Prop} (hq : bX5_pointer_58 G fr lo x2 h Q) : xP G YX5_pointer fr lo 58 [(2, rv x2)] [] h Q := by
  unfold bX5_pointer_58 at hq
  refine x_aload_n 0 dX5_pointer_58 rfl ?_
  exact x_aret rfl xty_O dX5_pointer_59 hq
set_option maxRecDepth 100000 in
def bX5_pointer (G : xG) (fr lo : Nat) (x0 : Nat) (x1 : Nat) (h : xH) (Q : Outcome → xH → Prop) : Prop := nx h + 1 ≤ xGN G ∧ us h + 9 ≤ xGU G ∧ (∀ (a3 : Nat) (h4 : xH), a3 = nx h + 1 → h4 = nO h 7 9 → xfresh h a3 → 1 ≤ fr ∧ 14 ≤ lo ∧ xRv G YX6_init (fr - 1) (lo - 14) [rv a3, .int 9] h4 (fun h11 => xext h4 h11 → tg h11 x0 = 6 ∧ (((fI h11 x0 1291) = 0 → tg h11 x1 = 16 ∧ 1 ≤ fr ∧ 15 ≤ lo ∧ xRr G YX5_namedType (fr - 1) (lo - 15) [rv x0, rv (fR h11 x1 3842)] h11 (fun x20 h19 => xext h11 h19 → 1 ≤ fr ∧ 15 ≤ lo ∧ xRv G YX5_pointsAt (fr - 1) (lo - 15) [rv x0, rv a3, rv x20, rv (fR h19 x1 3842)] h19 (fun h26 => xext h19 h26 → bX5_pointer_58 G fr lo a3 h26 Q) (fun r h2 => Q (.threw r) h2)) (fun r h2 => Q (.threw r) h2)) ∧ (¬ (fI h11 x0 1291) = 0 → tg h11 (fR h11 x0 1289) = 29 ∧ 1 ≤ fr ∧ 13 ≤ lo ∧ xRi G YJ2_add (fr - 1) (lo - 13) [rv (fR h11 x0 1289), rv a3] h11 (fun x33 h32 => xext h11 h32 → tg h32 x1 = 16 ∧ tg h32 (fR h32 x0 1290) = 29 ∧ 1 ≤ fr ∧ 13 ≤ lo ∧ xRi G YJ2_add (fr - 1) (lo - 13) [rv (fR h32 x0 1290), rv (fR h32 x1 3842)] h32 (fun x41 h40 => xext h32 h40 → bX5_pointer_58 G fr lo a3 h40 Q) (fun r h2 => Q (.threw r) h2)) (fun r h2 => Q (.threw r) h2)))) (fun r h2 => Q (.threw r) h2))
set_option maxRecDepth 100000 in
theorem uX5_pointer {G : xG} {fr lo : Nat} {x0 : Nat} {x1 : Nat} {h : xH} {Q : Outcome → xH → Prop} (hq : bX5_pointer G fr lo x0 x1 h Q) : xP G YX5_pointer fr lo 0 [(0, rv x0), (1, rv x1)] [] h Q := by
  unfold bX5_pointer at hq
  obtain ⟨g1, g2, hq⟩ := hq
  obtain ⟨a3, e5⟩ : ∃ y, y = nx h + 1 := ⟨_, rfl⟩
  obtain ⟨h4, e6⟩ : ∃ y, y = nO h 7 9 := ⟨_, rfl⟩
  refine x_new' cdX5_9 dX5_pointer_0 g1 g2 e5 e6 (fun f7 => ?_)
  replace hq := hq a3 h4 e5 e6 f7
  have t8 : tg h4 a3 = 7 := by rw [e6, e5]; exact tg_nO
  refine x_dup dX5_pointer_3 (rv_cat _) ?_
  refine x_bipush (v := 9) dX5_pointer_4 (by decide) ?_
  obtain ⟨g9, g10, hq⟩ := hq
  refine x_callI (Yc := YX6_init) (as := [.int 9]) (st := [rv a3]) q689 miX6_init (by rw [t8]; decide) rfl dX5_pointer_6 (xle (xal1 (rv_cat _) (xal1 rfl xal0)) (by decide)) (xfr g9) (xlo (xsw1 (rv_cat _) xsw0) (by decide) g10) (xKv hq (fun h11 hq e13 => ?_) (fun _ _ q _ => q))
  replace hq := hq e13
  refine x_astore_n (lv' := [(2, rv a3), (0, rv x0), (1, rv x1)]) dX5_pointer_9 (by decide) (by first | rfl | (simp [rv_cat, Value.category]; done) | (simp [rv_cat, Value.category]; decide)) ?_
  refine x_aload_n 1 dX5_pointer_10 rfl ?_
  obtain ⟨g14, hq⟩ := hq
  refine x_get (v := .int (fI h11 x0 1291)) fdX5_346 dX5_pointer_11 g14 rfl ?_
  refine x_if_eq (tgt := 41) dX5_pointer_14 (by decide) (fun c15 => ?_) (fun c15 => ?_)
  · replace hq := hq.1 c15
    refine x_aload_n 1 dX5_pointer_41 rfl ?_
    refine x_aload_n 0 dX5_pointer_42 rfl ?_
    refine x_aload_n 1 dX5_pointer_43 rfl ?_
    refine x_aload_n 2 dX5_pointer_44 rfl ?_
    obtain ⟨g16, hq⟩ := hq
    refine x_getN (v := rv (fR h11 x1 3842)) gfX5_251 dX5_pointer_45 g16 rfl ?_
    obtain ⟨g17, g18, hq⟩ := hq
    refine x_callV (Yc := YX5_namedType) (as := [rv (fR h11 x1 3842)]) (st := [rv a3, rv x0]) q2276 mvX5_namedType g14 rfl dX5_pointer_48 (xle (xal1 (rv_cat _) (xal1 (rv_cat _) xal0)) (by decide)) (xfr g17) (xlo (xsw1 (rv_cat _) (xsw1 (rv_cat _) xsw0)) (by decide) g18) (xKr hq (fun x20 h19 hq e21 => ?_) (fun _ _ q _ => q))
    replace hq := hq e21
    refine x_aload_n 2 dX5_pointer_51 rfl ?_
    have t22 : tg h19 x1 = 16 := e21.tg g16 (by decide)
    refine x_getN (v := rv (fR h19 x1 3842)) gfX5_251 dX5_pointer_52 t22 rfl ?_
    have t23 : tg h19 x0 = 6 := e21.tg g14 (by decide)
    obtain ⟨g24, g25, hq⟩ := hq
    refine x_callV (Yc := YX5_pointsAt) (as := [rv a3, rv x20, rv (fR h19 x1 3842)]) (st := []) q2422 mvX5_pointsAt t23 rfl dX5_pointer_55 (xle (xal1 (rv_cat _) (xal1 (rv_cat _) (xal1 (rv_cat _) (xal1 (rv_cat _) xal0)))) (by decide)) (xfr g24) (xlo xsw0 (by decide) g25) (xKv hq (fun h26 hq e28 => ?_) (fun _ _ q _ => q))
    replace hq := hq e28
    refine xP.pick (lv' := [(2, rv a3)]) [0] rfl ?_
    exact uX5_pointer_58 hq
  · replace hq := hq.2 c15
    refine x_aload_n 1 dX5_pointer_17 rfl ?_
    refine x_get (v := rv (fR h11 x0 1289)) fdX5_51 dX5_pointer_18 g14 rfl ?_
    refine x_aload_n 0 dX5_pointer_21 rfl ?_
    obtain ⟨g29, hq⟩ := hq
    obtain ⟨g30, g31, hq⟩ := hq
    refine x_callV (Yc := YJ2_add) (as := [rv a3]) (st := []) q1009 mvJ2_add g29 rfl dX5_pointer_22 (xle (xal1 (rv_cat _) (xal1 (rv_cat _) xal0)) (by decide)) (xfr g30) (xlo xsw0 (by decide) g31) (xKi hq (fun x33 h32 hq e34 => ?_) (fun _ _ q _ => q))
    replace hq := hq e34
    refine x_pop dX5_pointer_25 rfl ?_
    refine x_aload_n 1 dX5_pointer_26 rfl ?_
    have t35 : tg h32 x0 = 6 := e34.tg g14 (by decide)
    refine x_get (v := rv (fR h32 x0 1290)) fdX5_55 dX5_pointer_27 t35 rfl ?_
    refine x_aload_n 2 dX5_pointer_30 rfl ?_
    obtain ⟨g36, hq⟩ := hq
    refine x_getN (v := rv (fR h32 x1 3842)) gfX5_251 dX5_pointer_31 g36 rfl ?_
    obtain ⟨g37, hq⟩ := hq
    obtain ⟨g38, g39, hq⟩ := hq
    refine x_callV (Yc := YJ2_add) (as := [rv (fR h32 x1 3842)]) (st := []) q1009 mvJ2_add g37 rfl dX5_pointer_34 (xle (xal1 (rv_cat _) (xal1 (rv_cat _) xal0)) (by decide)) (xfr g38) (xlo xsw0 (by decide) g39) (xKi hq (fun x41 h40 hq e42 => ?_) (fun _ _ q _ => q))
    replace hq := hq e42
    refine x_pop dX5_pointer_37 rfl ?_
    refine x_goto (tgt := 58) dX5_pointer_38 (by decide) ?_
    refine xP.pick (lv' := [(2, rv a3)]) [0] rfl ?_
    exact uX5_pointer_58 hq
theorem rX5_pointer {G : xG} {fr lo : Nat} {x0 : Nat} {x1 : Nat} {h : xH} {Q : Outcome → xH → Prop} (hq : bX5_pointer G fr lo x0 x1 h Q) : xR G YX5_pointer fr lo [rv x0, rv x1] h Q := by
  show xP _ _ _ _ _ (lv_args 0 _) _ _ _
  rw [show lv_args 0 [rv x0, rv x1] = [(0, rv x0), (1, rv x1)] from (xla1 (rv_cat _) (xla1 (rv_cat _) xla0))]
  exact uX5_pointer hq
set_option maxRecDepth 100000 in
theorem dX5_pointsAt_0 : decode cX5_pointsAt 0 = .ok (.aload_n 2, 1) := by decide +kernel
set_option maxRecDepth 100000 in
theorem dX5_pointsAt_1 : decode cX5_pointsAt 1 = .ok (.getfield 289, 3) := by decide +kernel
set_option maxRecDepth 100000 in
theorem dX5_pointsAt_4 : decode cX5_pointsAt 4 = .ok (.bipush 10, 2) := by decide +kernel
set_option maxRecDepth 100000 in
theorem dX5_pointsAt_6 : decode cX5_pointsAt 6 = .ok (.if_icmp .ne 14, 3) := by decide +kernel
set_option maxRecDepth 100000 in
theorem dX5_pointsAt_9 : decode cX5_pointsAt 9 = .ok (.aload_n 0, 1) := by decide +kernel
set_option maxRecDepth 100000 in
theorem dX5_pointsAt_10 : decode cX5_pointsAt 10 = .ok (.bipush 7, 2) := by decide +kernel
set_option maxRecDepth 100000 in
theorem dX5_pointsAt_12 : decode cX5_pointsAt 12 = .ok (.aload_n 3, 1) := by decide +kernel
set_option maxRecDepth 100000 in
theorem dX5_pointsAt_13 : decode cX5_pointsAt 13 = .ok (.invokevirtual 192, 3) := by decide +kernel
set_option maxRecDepth 100000 in
theorem dX5_pointsAt_16 : decode cX5_pointsAt 16 = .ok (.invokevirtual 163, 3) := by decide +kernel
set_option maxRecDepth 100000 in
theorem dX5_pointsAt_19 : decode cX5_pointsAt 19 = .ok (.athrow, 1) := by decide +kernel
set_option maxRecDepth 100000 in
theorem dX5_pointsAt_20 : decode cX5_pointsAt 20 = .ok (.aload_n 1, 1) := by decide +kernel
set_option maxRecDepth 100000 in
theorem dX5_pointsAt_21 : decode cX5_pointsAt 21 = .ok (.aload_n 2, 1) := by decide +kernel
set_option maxRecDepth 100000 in
theorem dX5_pointsAt_22 : decode cX5_pointsAt 22 = .ok (.putfield 286, 3) := by decide +kernel
set_option maxRecDepth 100000 in
theorem dX5_pointsAt_25 : decode cX5_pointsAt 25 = .ok (.return_, 1) := by decide +kernel
set_option maxRecDepth 100000 in
def bX5_pointsAt (G : xG) (fr lo : Nat) (x0 : Nat) (x1 : Nat) (x2 : Nat) (x3 : Nat) (h : xH) (Q : Outcome → xH → Prop) : Prop := tg h x2 = 7 ∧ ((¬ (fI h x2 1536) = 10 → tg h x1 = 7 ∧ (∀ h4 : xH, h4 = sR h x1 1538 x2 → Q (.returned none) h4)) ∧ ((fI h x2 1536) = 10 → tg h x3 = 16 ∧ 1 ≤ fr ∧ 14 ≤ lo ∧ xRi G YX15_place (fr - 1) (lo - 14) [rv x3] h (fun x10 h9 => xext h h9 → tg h9 x0 = 6 ∧ 1 ≤ fr ∧ 14 ≤ lo ∧ xRr G YX5_fault (fr - 1) (lo - 14) [rv x0, .int 7, .int x10] h9 (fun x16 h15 => xext h9 h15 → (∃ r18, x16 = r18 + 1 ∧ Q (.threw r18) h15)) (fun r h2 => Q (.threw r) h2)) (fun r h2 => Q (.threw r) h2)))
set_option maxRecDepth 100000 in
theorem uX5_pointsAt {G : xG} {fr lo : Nat} {x0 : Nat} {x1 : Nat} {x2 : Nat} {x3 : Nat} {h : xH} {Q : Outcome → xH → Prop} (hq : bX5_pointsAt G fr lo x0 x1 x2 x3 h Q) : xP G YX5_pointsAt fr lo 0 [(0, rv x0), (1, rv x1), (2, rv x2), (3, rv x3)] [] h Q := by
  unfold bX5_pointsAt at hq
  refine x_aload_n 2 dX5_pointsAt_0 rfl ?_
  obtain ⟨g1, hq⟩ := hq
  refine x_getN (v := .int (fI h x2 1536)) gfX5_289 dX5_pointsAt_1 g1 rfl ?_
  refine x_bipush (v := 10) dX5_pointsAt_4 (by decide) ?_
  refine x_icmp_ne (tgt := 20) dX5_pointsAt_6 (by decide) (fun c2 => ?_) (fun c2 => ?_)
  · replace hq := hq.1 c2
    refine x_aload_n 1 dX5_pointsAt_20 rfl ?_
    refine x_aload_n 2 dX5_pointsAt_21 rfl ?_
    obtain ⟨g3, hq⟩ := hq
    obtain ⟨h4, e5⟩ : ∃ y, y = sR h x1 1538 x2 := ⟨_, rfl⟩
    replace hq := hq h4 e5
    refine x_putNR gfX5_286 xty_O dX5_pointsAt_22 g3 (Or.inl (by rw [g3]; rfl)) rfl e5 ?_
    exact x_vret rfl dX5_pointsAt_25 hq
  · replace hq := hq.2 c2
    refine x_aload_n 0 dX5_pointsAt_9 rfl ?_
    refine x_bipush (v := 7) dX5_pointsAt_10 (by decide) ?_
    refine x_aload_n 3 dX5_pointsAt_12 rfl ?_
    obtain ⟨g6, hq⟩ := hq
    obtain ⟨g7, g8, hq⟩ := hq
    refine x_callV (Yc := YX15_place) (as := []) (st := [.int 7, rv x0]) q2013 mvX15_place g6 rfl dX5_pointsAt_13 (xle (xal1 (rv_cat _) xal0) (by decide)) (xfr g7) (xlo (xsw1 rfl (xsw1 (rv_cat _) xsw0)) (by decide) g8) (xKi hq (fun x10 h9 hq e11 => ?_) (fun _ _ q _ => q))
    replace hq := hq e11
    obtain ⟨g12, hq⟩ := hq
    obtain ⟨g13, g14, hq⟩ := hq
    refine x_callV (Yc := YX5_fault) (as := [.int 7, .int x10]) (st := []) q2087 mvX5_fault g12 rfl dX5_pointsAt_16 (xle (xal1 (rv_cat _) (xal1 rfl (xal1 rfl xal0))) (by decide)) (xfr g13) (xlo xsw0 (by decide) g14) (xKr hq (fun x16 h15 hq e17 => ?_) (fun _ _ q _ => q))
    replace hq := hq e17
    obtain ⟨r18, g19, hq⟩ := hq
    rw [g19]
    exact x_athrow dX5_pointsAt_19 hq
theorem rX5_pointsAt {G : xG} {fr lo : Nat} {x0 : Nat} {x1 : Nat} {x2 : Nat} {x3 : Nat} {h : xH} {Q : Outcome → xH → Prop} (hq : bX5_pointsAt G fr lo x0 x1 x2 x3 h Q) : xR G YX5_pointsAt fr lo [rv x0, rv x1, rv x2, rv x3] h Q := by
  show xP _ _ _ _ _ (lv_args 0 _) _ _ _
  rw [show lv_args 0 [rv x0, rv x1, rv x2, rv x3] = [(0, rv x0), (1, rv x1), (2, rv x2), (3, rv x3)] from (xla1 (rv_cat _) (xla1 (rv_cat _) (xla1 (rv_cat _) (xla1 (rv_cat _) xla0))))]
  exact uX5_pointsAt hq
set_option maxRecDepth 100000 in
theorem dX5_variables_0 : decode cX5_variables 0 = .ok (.aload_n 0, 1) := by decide +kernel
set_option maxRecDepth 100000 in
theorem dX5_variables_1 : decode cX5_variables 1 = .ok (.aload_n 1, 1) := by decide +kernel
set_option maxRecDepth 100000 in
theorem dX5_variables_2 : decode cX5_variables 2 = .ok (.iconst 1, 1) := by decide +kernel
set_option maxRecDepth 100000 in
theorem dX5_variables_3 : decode cX5_variables 3 = .ok (.invokevirtual 310, 3) := by decide +kernel
set_option maxRecDepth 100000 in
theorem dX5_variables_6 : decode cX5_variables 6 = .ok (.invokevirtual 283, 3) := by decide +kernel
set_option maxRecDepth 100000 in
theorem dX5_variables_9 : decode cX5_variables 9 = .ok (.astore_n 3, 1) := by decide +kernel
set_option maxRecDepth 100000 in
theorem dX5_variables_10 : decode cX5_variables 10 = .ok (.aload_n 1, 1) := by decide +kernel
set_option maxRecDepth 100000 in
theorem dX5_variables_11 : decode cX5_variables 11 = .ok (.getfield 251, 3) := by decide +kernel
set_option maxRecDepth 100000 in
theorem dX5_variables_14 : decode cX5_variables 14 = .ok (.getfield 251, 3) := by decide +kernel
set_option maxRecDepth 100000 in
theorem dX5_variables_17 : decode cX5_variables 17 = .ok (.astore 4, 2) := by decide +kernel
set_option maxRecDepth 100000 in
theorem dX5_variables_19 : decode cX5_variables 19 = .ok (.aload 4, 2) := by decide +kernel
set_option maxRecDepth 100000 in
theorem dX5_variables_21 : decode cX5_variables 21 = .ok (.ifnull 57, 3) := by decide +kernel
set_option maxRecDepth 100000 in
theorem dX5_variables_24 : decode cX5_variables 24 = .ok (.new 103, 3) := by decide +kernel
set_option maxRecDepth 100000 in
theorem dX5_variables_27 : decode cX5_variables 27 = .ok (.dup, 1) := by decide +kernel
set_option maxRecDepth 100000 in
theorem dX5_variables_28 : decode cX5_variables 28 = .ok (.iconst 2, 1) := by decide +kernel
set_option maxRecDepth 100000 in
theorem dX5_variables_29 : decode cX5_variables 29 = .ok (.aload 4, 2) := by decide +kernel
set_option maxRecDepth 100000 in
theorem dX5_variables_31 : decode cX5_variables 31 = .ok (.invokevirtual 173, 3) := by decide +kernel
set_option maxRecDepth 100000 in
theorem dX5_variables_34 : decode cX5_variables 34 = .ok (.aload_n 3, 1) := by decide +kernel
set_option maxRecDepth 100000 in
theorem dX5_variables_35 : decode cX5_variables 35 = .ok (.invokespecial 109, 3) := by decide +kernel
set_option maxRecDepth 100000 in
theorem dX5_variables_38 : decode cX5_variables 38 = .ok (.astore 5, 2) := by decide +kernel
set_option maxRecDepth 100000 in
theorem dX5_variables_40 : decode cX5_variables 40 = .ok (.aload 5, 2) := by decide +kernel
set_option maxRecDepth 100000 in
theorem dX5_variables_42 : decode cX5_variables 42 = .ok (.iconst 1, 1) := by decide +kernel
set_option maxRecDepth 100000 in
theorem dX5_variables_43 : decode cX5_variables 43 = .ok (.putfield 517, 3) := by decide +kernel
set_option maxRecDepth 100000 in
theorem dX5_variables_46 : decode cX5_variables 46 = .ok (.aload_n 0, 1) := by decide +kernel
set_option maxRecDepth 100000 in
theorem dX5_variables_47 : decode cX5_variables 47 = .ok (.aload_n 2, 1) := by decide +kernel
set_option maxRecDepth 100000 in
theorem dX5_variables_48 : decode cX5_variables 48 = .ok (.getfield 415, 3) := by decide +kernel
set_option maxRecDepth 100000 in
theorem dX5_variables_51 : decode cX5_variables 51 = .ok (.aload 5, 2) := by decide +kernel
set_option maxRecDepth 100000 in
theorem dX5_variables_53 : decode cX5_variables 53 = .ok (.aload 4, 2) := by decide +kernel
set_option maxRecDepth 100000 in
theorem dX5_variables_55 : decode cX5_variables 55 = .ok (.invokevirtual 192, 3) := by decide +kernel
set_option maxRecDepth 100000 in
theorem dX5_variables_58 : decode cX5_variables 58 = .ok (.invokevirtual 303, 3) := by decide +kernel
set_option maxRecDepth 100000 in
theorem dX5_variables_61 : decode cX5_variables 61 = .ok (.aload_n 0, 1) := by decide +kernel
set_option maxRecDepth 100000 in
theorem dX5_variables_62 : decode cX5_variables 62 = .ok (.aload 5, 2) := by decide +kernel
set_option maxRecDepth 100000 in
theorem dX5_variables_64 : decode cX5_variables 64 = .ok (.aload_n 2, 1) := by decide +kernel
set_option maxRecDepth 100000 in
theorem dX5_variables_65 : decode cX5_variables 65 = .ok (.invokevirtual 444, 3) := by decide +kernel
set_option maxRecDepth 100000 in
theorem dX5_variables_68 : decode cX5_variables 68 = .ok (.aload 4, 2) := by decide +kernel
set_option maxRecDepth 100000 in
theorem dX5_variables_70 : decode cX5_variables 70 = .ok (.getfield 307, 3) := by decide +kernel
set_option maxRecDepth 100000 in
theorem dX5_variables_73 : decode cX5_variables 73 = .ok (.astore 4, 2) := by decide +kernel
set_option maxRecDepth 100000 in
theorem dX5_variables_75 : decode cX5_variables 75 = .ok (.goto (-56), 3) := by decide +kernel
set_option maxRecDepth 100000 in
theorem dX5_variables_78 : decode cX5_variables 78 = .ok (.return_, 1) := by decide +kernel
def lX5_variables_19 (G : xG) (fr lo : Nat) (x0 : Nat) (x2 : Nat) (x3 : Nat) (x4 : Nat) (h : xH) (Q : Outcome → xH → Prop) : Prop := xP G YX5_variables fr lo 19 [(0, rv x0), (2, rv x2), (3, rv x3), (4, rv x4)] [] h Q
set_option maxRecDepth 100000 in
def bX5_variables_19 (G : xG) (fr lo : Nat) (x0 : Nat) (x2 : Nat) (x3 : Nat) (x4 : Nat) (h : xH) (Q : Outcome → xH → Prop) : Prop := ((x4 = 0 → Q (.returned none) h) ∧ (¬ x4 = 0 → nx h + 1 ≤ xGN G ∧ us h + 12 ≤ xGU G ∧ (∀ (a4 : Nat) (h5 : xH), a4 = nx h + 1 → h5 = nO h 9 12 → xfresh h a4 → tg h5 x4 = 16 ∧ 1 ≤ fr ∧ 15 ≤ lo ∧ xRr G YX15_text (fr - 1) (lo - 15) [rv x4] h5 (fun x14 h13 => xext h5 h13 → 1 ≤ fr ∧ 16 ≤ lo ∧ xRv G YX8_init (fr - 1) (lo - 16) [rv a4, .int 2, rv x14, rv x3] h13 (fun h19 => xext h13 h19 → (∀ h23 : xH, h23 = sI h19 a4 2057 1 → tg h23 x2 = 17 ∧ 1 ≤ fr ∧ 15 ≤ lo ∧ xRi G YX15_place (fr - 1) (lo - 15) [rv x4] h23 (fun x32 h31 => xext h23 h31 → tg h31 x0 = 6 ∧ 1 ≤ fr ∧ 15 ≤ lo ∧ xRv G YX5_define (fr - 1) (lo - 15) [rv x0, rv (fR h23 x2 4101), rv a4, .int x32] h31 (fun h37 => xext h31 h37 → 1 ≤ fr ∧ 14 ≤ lo ∧ xRv G YX5_place (fr - 1) (lo - 14) [rv x0, rv a4, rv x2] h37 (fun h43 => xext h37 h43 → lX5_variables_19 G fr lo x0 x2 x3 (fR h43 x4 3844) h43 Q) (fun r h2 => Q (.threw r) h2)) (fun r h2 => Q (.threw r) h2)) (fun r h2 => Q (.threw r) h2))) (fun r h2 => Q (.threw r) h2)) (fun r h2 => Q (.threw r) h2))))
set_option maxRecDepth 100000 in
theorem uX5_variables_19 {G : xG} {fr lo : Nat} {x0 : Nat} {x2 : Nat} {x3 : Nat} {x4 : Nat} {h : xH} {Q : Outcome → xH → Prop} (hq : bX5_variables_19 G fr lo x0 x2 x3 x4 h Q) : xP G YX5_variables fr lo 19 [(0, rv x0), (2, rv x2), (3, rv x3), (4, rv x4)] [] h Q := by
  unfold bX5_variables_19 at hq
  refine x_aload 3 dX5_variables_19 rfl ?_
  refine x_ifnull (tgt := 78) dX5_variables_21 (by decide) (fun c1 => ?_) (fun c1 => ?_)
  · replace hq := hq.1 c1
    exact x_vret rfl dX5_variables_78 hq
  · replace hq := hq.2 c1
    obtain ⟨g2, g3, hq⟩ := hq
    obtain ⟨a4, e6⟩ : ∃ y, y = nx h + 1 := ⟨_, rfl⟩
    obtain ⟨h5, e7⟩ : ∃ y, y = nO h 9 12 := ⟨_, rfl⟩
    refine x_new' cdX5_103 dX5_variables_24 g2 g3 e6 e7 (fun f8 => ?_)
    replace hq := hq a4 h5 e6 e7 f8
    have t9 : tg h5 a4 = 9 := by rw [e7, e6]; exact tg_nO
    refine x_dup dX5_variables_27 (rv_cat _) ?_
    refine x_iconst (v := 2) dX5_variables_28 (by decide) ?_
    refine x_aload 3 dX5_variables_29 rfl ?_
    obtain ⟨g10, hq⟩ := hq
    obtain ⟨g11, g12, hq⟩ := hq
    refine x_callV (Yc := YX15_text) (as := []) (st := [.int 2, rv a4, rv a4]) q2009 mvX15_text g10 rfl dX5_variables_31 (xle (xal1 (rv_cat _) xal0) (by decide)) (xfr g11) (xlo (xsw1 rfl (xsw1 (rv_cat _) (xsw1 (rv_cat _) xsw0))) (by decide) g12) (xKr hq (fun x14 h13 hq e15 => ?_) (fun _ _ q _ => q))
    replace hq := hq e15
    refine x_aload_n 2 dX5_variables_34 rfl ?_
    have t16 : tg h13 a4 = 9 := e15.tg t9 (by decide)
    obtain ⟨g17, g18, hq⟩ := hq
    refine x_callI (Yc := YX8_init) (as := [.int 2, rv x14, rv x3]) (st := [rv a4]) q961 miX8_init (by rw [t16]; decide) rfl dX5_variables_35 (xle (xal1 (rv_cat _) (xal1 rfl (xal1 (rv_cat _) (xal1 (rv_cat _) xal0)))) (by decide)) (xfr g17) (xlo (xsw1 (rv_cat _) xsw0) (by decide) g18) (xKv hq (fun h19 hq e21 => ?_) (fun _ _ q _ => q))
    replace hq := hq e21
    refine x_astore (lv' := [(5, rv a4), (0, rv x0), (2, rv x2), (3, rv x3), (4, rv x4)]) dX5_variables_38 (by decide) (by first | rfl | (simp [rv_cat, Value.category]; done) | (simp [rv_cat, Value.category]; decide)) ?_
    refine x_aload 0 dX5_variables_40 rfl ?_
    refine x_iconst (v := 1) dX5_variables_42 (by decide) ?_
    have t22 : tg h19 a4 = 9 := e21.tg t16 (by decide)
    obtain ⟨h23, e24⟩ : ∃ y, y = sI h19 a4 2057 1 := ⟨_, rfl⟩
    replace hq := hq h23 e24
    refine x_putNI gfX5_517 xty_Z1 dX5_variables_43 t22 (Or.inl (by rw [t22]; rfl)) (xnB (Or.inr rfl)) rfl e24 ?_
    refine x_aload_n 1 dX5_variables_46 rfl ?_
    refine x_aload_n 2 dX5_variables_47 rfl ?_
    obtain ⟨g25, hq⟩ := hq
    refine x_getN (v := rv (fR h23 x2 4101)) gfX5_415 dX5_variables_48 g25 rfl ?_
    refine x_aload 0 dX5_variables_51 rfl ?_
    refine x_aload 4 dX5_variables_53 rfl ?_
    have t26 : tg h13 x4 = 16 := e15.tg g10 (by decide)
    have t27 : tg h19 x4 = 16 := e21.tg t26 (by decide)
    have t28 : tg h23 x4 = 16 := by rw [e24]; exact t27
    obtain ⟨g29, g30, hq⟩ := hq
    refine x_callV (Yc := YX15_place) (as := []) (st := [rv a4, rv (fR h23 x2 4101), rv x0]) q2013 mvX15_place t28 rfl dX5_variables_55 (xle (xal1 (rv_cat _) xal0) (by decide)) (xfr g29) (xlo (xsw1 (rv_cat _) (xsw1 (rv_cat _) (xsw1 (rv_cat _) xsw0))) (by decide) g30) (xKi hq (fun x32 h31 hq e33 => ?_) (fun _ _ q _ => q))
    replace hq := hq e33
    obtain ⟨g34, hq⟩ := hq
    obtain ⟨g35, g36, hq⟩ := hq
    refine x_callV (Yc := YX5_define) (as := [rv (fR h23 x2 4101), rv a4, .int x32]) (st := []) q2103 mvX5_define g34 rfl dX5_variables_58 (xle (xal1 (rv_cat _) (xal1 (rv_cat _) (xal1 (rv_cat _) (xal1 rfl xal0)))) (by decide)) (xfr g35) (xlo xsw0 (by decide) g36) (xKv hq (fun h37 hq e39 => ?_) (fun _ _ q _ => q))
    replace hq := hq e39
    refine x_aload_n 1 dX5_variables_61 rfl ?_
    refine x_aload 0 dX5_variables_62 rfl ?_
    refine x_aload_n 2 dX5_variables_64 rfl ?_
    have t40 : tg h37 x0 = 6 := e39.tg g34 (by decide)
    obtain ⟨g41, g42, hq⟩ := hq
    refine x_callV (Yc := YX5_place) (as := [rv a4, rv x2]) (st := []) q2098 mvX5_place t40 rfl dX5_variables_65 (xle (xal1 (rv_cat _) (xal1 (rv_cat _) (xal1 (rv_cat _) xal0))) (by decide)) (xfr g41) (xlo xsw0 (by decide) g42) (xKv hq (fun h43 hq e45 => ?_) (fun _ _ q _ => q))
    replace hq := hq e45
    refine x_aload 4 dX5_variables_68 rfl ?_
    have t46 : tg h31 x4 = 16 := e33.tg t28 (by decide)
    have t47 : tg h37 x4 = 16 := e39.tg t46 (by decide)
    have t48 : tg h43 x4 = 16 := e45.tg t47 (by decide)
    refine x_getN (v := rv (fR h43 x4 3844)) gfX5_307 dX5_variables_70 t48 rfl ?_
    refine x_astore (lv' := [(4, rv (fR h43 x4 3844)), (5, rv a4), (0, rv x0), (2, rv x2), (3, rv x3)]) dX5_variables_73 (by decide) (by first | rfl | (simp [rv_cat, Value.category]; done) | (simp [rv_cat, Value.category]; decide)) ?_
    refine x_goto (tgt := 19) dX5_variables_75 (by decide) ?_
    refine xP.pick (lv' := [(0, rv x0), (2, rv x2), (3, rv x3), (4, rv (fR h43 x4 3844))]) [2, 3, 4, 0] rfl ?_
    exact hq
set_option maxRecDepth 100000 in
def bX5_variables (G : xG) (fr lo : Nat) (x0 : Nat) (x1 : Nat) (x2 : Nat) (h : xH) (Q : Outcome → xH → Prop) : Prop := tg h x1 = 16 ∧ 1 ≤ fr ∧ 16 ≤ lo ∧ xRr G YX15_kid (fr - 1) (lo - 16) [rv x1, .int 1] h (fun x5 h4 => xext h h4 → tg h4 x0 = 6 ∧ 1 ≤ fr ∧ 14 ≤ lo ∧ xRr G YX5_typeOf (fr - 1) (lo - 14) [rv x0, rv x5] h4 (fun x11 h10 => xext h4 h10 → tg h10 (fR h10 x1 3842) = 16 ∧ lX5_variables_19 G fr lo x0 x2 x11 (fR h10 (fR h10 x1 3842) 3842) h10 Q) (fun r h2 => Q (.threw r) h2)) (fun r h2 => Q (.threw r) h2)
set_option maxRecDepth 100000 in
theorem uX5_variables {G : xG} {fr lo : Nat} {x0 : Nat} {x1 : Nat} {x2 : Nat} {h : xH} {Q : Outcome → xH → Prop} (hq : bX5_variables G fr lo x0 x1 x2 h Q) : xP G YX5_variables fr lo 0 [(0, rv x0), (1, rv x1), (2, rv x2)] [] h Q := by
  unfold bX5_variables at hq
  refine x_aload_n 0 dX5_variables_0 rfl ?_
  refine x_aload_n 1 dX5_variables_1 rfl ?_
  refine x_iconst (v := 1) dX5_variables_2 (by decide) ?_
  obtain ⟨g1, hq⟩ := hq
  obtain ⟨g2, g3, hq⟩ := hq
  refine x_callV (Yc := YX15_kid) (as := [.int 1]) (st := [rv x0]) q2129 mvX15_kid g1 rfl dX5_variables_3 (xle (xal1 (rv_cat _) (xal1 rfl xal0)) (by decide)) (xfr g2) (xlo (xsw1 (rv_cat _) xsw0) (by decide) g3) (xKr hq (fun x5 h4 hq e6 => ?_) (fun _ _ q _ => q))
  replace hq := hq e6
  obtain ⟨g7, hq⟩ := hq
  obtain ⟨g8, g9, hq⟩ := hq
  refine x_callV (Yc := YX5_typeOf) (as := [rv x5]) (st := []) q2272 mvX5_typeOf g7 rfl dX5_variables_6 (xle (xal1 (rv_cat _) (xal1 (rv_cat _) xal0)) (by decide)) (xfr g8) (xlo xsw0 (by decide) g9) (xKr hq (fun x11 h10 hq e12 => ?_) (fun _ _ q _ => q))
  replace hq := hq e12
  refine x_astore_n (lv' := [(3, rv x11), (0, rv x0), (1, rv x1), (2, rv x2)]) dX5_variables_9 (by decide) (by first | rfl | (simp [rv_cat, Value.category]; done) | (simp [rv_cat, Value.category]; decide)) ?_
  refine x_aload_n 2 dX5_variables_10 rfl ?_
  have t13 : tg h4 x1 = 16 := e6.tg g1 (by decide)
  have t14 : tg h10 x1 = 16 := e12.tg t13 (by decide)
  refine x_getN (v := rv (fR h10 x1 3842)) gfX5_251 dX5_variables_11 t14 rfl ?_
  obtain ⟨g15, hq⟩ := hq
  refine x_getN (v := rv (fR h10 (fR h10 x1 3842) 3842)) gfX5_251 dX5_variables_14 g15 rfl ?_
  refine x_astore (lv' := [(4, rv (fR h10 (fR h10 x1 3842) 3842)), (3, rv x11), (0, rv x0), (1, rv x1), (2, rv x2)]) dX5_variables_17 (by decide) (by first | rfl | (simp [rv_cat, Value.category]; done) | (simp [rv_cat, Value.category]; decide)) ?_
  refine xP.pick (lv' := [(0, rv x0), (2, rv x2), (3, rv x11), (4, rv (fR h10 (fR h10 x1 3842) 3842))]) [2, 4, 1, 0] rfl ?_
  exact hq
theorem rX5_variables {G : xG} {fr lo : Nat} {x0 : Nat} {x1 : Nat} {x2 : Nat} {h : xH} {Q : Outcome → xH → Prop} (hq : bX5_variables G fr lo x0 x1 x2 h Q) : xR G YX5_variables fr lo [rv x0, rv x1, rv x2] h Q := by
  show xP _ _ _ _ _ (lv_args 0 _) _ _ _
  rw [show lv_args 0 [rv x0, rv x1, rv x2] = [(0, rv x0), (1, rv x1), (2, rv x2)] from (xla1 (rv_cat _) (xla1 (rv_cat _) (xla1 (rv_cat _) xla0)))]
  exact uX5_variables hq
set_option maxRecDepth 100000 in
theorem dX5_outside_0 : decode cX5_outside 0 = .ok (.aload_n 2, 1) := by decide +kernel
set_option maxRecDepth 100000 in
theorem dX5_outside_1 : decode cX5_outside 1 = .ok (.aload_n 1, 1) := by decide +kernel
set_option maxRecDepth 100000 in
theorem dX5_outside_2 : decode cX5_outside 2 = .ok (.invokevirtual 173, 3) := by decide +kernel
set_option maxRecDepth 100000 in
theorem dX5_outside_5 : decode cX5_outside 5 = .ok (.invokevirtual 159, 3) := by decide +kernel
set_option maxRecDepth 100000 in
theorem dX5_outside_8 : decode cX5_outside 8 = .ok (.astore_n 3, 1) := by decide +kernel
set_option maxRecDepth 100000 in
theorem dX5_outside_9 : decode cX5_outside 9 = .ok (.aload_n 3, 1) := by decide +kernel
set_option maxRecDepth 100000 in
theorem dX5_outside_10 : decode cX5_outside 10 = .ok (.ifnull 22, 3) := by decide +kernel
set_option maxRecDepth 100000 in
theorem dX5_outside_13 : decode cX5_outside 13 = .ok (.aload_n 3, 1) := by decide +kernel
set_option maxRecDepth 100000 in
theorem dX5_outside_14 : decode cX5_outside 14 = .ok (.getfield 199, 3) := by decide +kernel
set_option maxRecDepth 100000 in
theorem dX5_outside_17 : decode cX5_outside 17 = .ok (.iconst 2, 1) := by decide +kernel
set_option maxRecDepth 100000 in
theorem dX5_outside_18 : decode cX5_outside 18 = .ok (.if_icmp .ne 14, 3) := by decide +kernel
set_option maxRecDepth 100000 in
theorem dX5_outside_21 : decode cX5_outside 21 = .ok (.aload_n 3, 1) := by decide +kernel
set_option maxRecDepth 100000 in
theorem dX5_outside_22 : decode cX5_outside 22 = .ok (.getfield 249, 3) := by decide +kernel
set_option maxRecDepth 100000 in
theorem dX5_outside_25 : decode cX5_outside 25 = .ok (.aload_n 0, 1) := by decide +kernel
set_option maxRecDepth 100000 in
theorem dX5_outside_26 : decode cX5_outside 26 = .ok (.getfield 39, 3) := by decide +kernel
set_option maxRecDepth 100000 in
theorem dX5_outside_29 : decode cX5_outside 29 = .ok (.if_acmp .eq 14, 3) := by decide +kernel
set_option maxRecDepth 100000 in
theorem dX5_outside_32 : decode cX5_outside 32 = .ok (.aload_n 0, 1) := by decide +kernel
set_option maxRecDepth 100000 in
theorem dX5_outside_33 : decode cX5_outside 33 = .ok (.bipush 6, 2) := by decide +kernel
set_option maxRecDepth 100000 in
theorem dX5_outside_35 : decode cX5_outside 35 = .ok (.aload_n 1, 1) := by decide +kernel
set_option maxRecDepth 100000 in
theorem dX5_outside_36 : decode cX5_outside 36 = .ok (.invokevirtual 192, 3) := by decide +kernel
set_option maxRecDepth 100000 in
theorem dX5_outside_39 : decode cX5_outside 39 = .ok (.invokevirtual 163, 3) := by decide +kernel
set_option maxRecDepth 100000 in
theorem dX5_outside_42 : decode cX5_outside 42 = .ok (.athrow, 1) := by decide +kernel
set_option maxRecDepth 100000 in
theorem dX5_outside_43 : decode cX5_outside 43 = .ok (.return_, 1) := by decide +kernel
set_option maxRecDepth 100000 in
def bX5_outside_32 (G : xG) (fr lo : Nat) (x0 : Nat) (x1 : Nat) (h : xH) (Q : Outcome → xH → Prop) : Prop := tg h x1 = 16 ∧ 1 ≤ fr ∧ 14 ≤ lo ∧ xRi G YX15_place (fr - 1) (lo - 14) [rv x1] h (fun x5 h4 => xext h h4 → tg h4 x0 = 6 ∧ 1 ≤ fr ∧ 14 ≤ lo ∧ xRr G YX5_fault (fr - 1) (lo - 14) [rv x0, .int 6, .int x5] h4 (fun x11 h10 => xext h4 h10 → (∃ r13, x11 = r13 + 1 ∧ Q (.threw r13) h10)) (fun r h2 => Q (.threw r) h2)) (fun r h2 => Q (.threw r) h2)
set_option maxRecDepth 100000 in
theorem uX5_outside_32 {G : xG} {fr lo : Nat} {x0 : Nat} {x1 : Nat} {h : xH} {Q : Outcome → xH → Prop} (hq : bX5_outside_32 G fr lo x0 x1 h Q) : xP G YX5_outside fr lo 32 [(0, rv x0), (1, rv x1)] [] h Q := by
  unfold bX5_outside_32 at hq
  refine x_aload_n 0 dX5_outside_32 rfl ?_
  refine x_bipush (v := 6) dX5_outside_33 (by decide) ?_
  refine x_aload_n 1 dX5_outside_35 rfl ?_
  obtain ⟨g1, hq⟩ := hq
  obtain ⟨g2, g3, hq⟩ := hq
  refine x_callV (Yc := YX15_place) (as := []) (st := [.int 6, rv x0]) q2013 mvX15_place g1 rfl dX5_outside_36 (xle (xal1 (rv_cat _) xal0) (by decide)) (xfr g2) (xlo (xsw1 rfl (xsw1 (rv_cat _) xsw0)) (by decide) g3) (xKi hq (fun x5 h4 hq e6 => ?_) (fun _ _ q _ => q))
  replace hq := hq e6
  obtain ⟨g7, hq⟩ := hq
  obtain ⟨g8, g9, hq⟩ := hq
  refine x_callV (Yc := YX5_fault) (as := [.int 6, .int x5]) (st := []) q2087 mvX5_fault g7 rfl dX5_outside_39 (xle (xal1 (rv_cat _) (xal1 rfl (xal1 rfl xal0))) (by decide)) (xfr g8) (xlo xsw0 (by decide) g9) (xKr hq (fun x11 h10 hq e12 => ?_) (fun _ _ q _ => q))
  replace hq := hq e12
  obtain ⟨r13, g14, hq⟩ := hq
  rw [g14]
  exact x_athrow dX5_outside_42 hq
set_option maxRecDepth 100000 in
def bX5_outside (G : xG) (fr lo : Nat) (x0 : Nat) (x1 : Nat) (x2 : Nat) (h : xH) (Q : Outcome → xH → Prop) : Prop := tg h x1 = 16 ∧ 1 ≤ fr ∧ 13 ≤ lo ∧ xRr G YX15_text (fr - 1) (lo - 13) [rv x1] h (fun x5 h4 => xext h h4 → tg h4 x2 = 8 ∧ 1 ≤ fr ∧ 14 ≤ lo ∧ xRr G YX7_own (fr - 1) (lo - 14) [rv x2, rv x5] h4 (fun x11 h10 => xext h4 h10 → ((x11 = 0 → bX5_outside_32 G fr lo x0 x1 h10 Q) ∧ (¬ x11 = 0 → tg h10 x11 = 9 ∧ ((¬ (fI h10 x11 2048) = 2 → bX5_outside_32 G fr lo x0 x1 h10 Q) ∧ ((fI h10 x11 2048) = 2 → tg h10 x0 = 6 ∧ (((fR h10 x11 2050) = (fR h10 x0 1286) → Q (.returned none) h10) ∧ (¬ (fR h10 x11 2050) = (fR h10 x0 1286) → bX5_outside_32 G fr lo x0 x1 h10 Q))))))) (fun r h2 => Q (.threw r) h2)) (fun r h2 => Q (.threw r) h2)
set_option maxRecDepth 100000 in
theorem uX5_outside {G : xG} {fr lo : Nat} {x0 : Nat} {x1 : Nat} {x2 : Nat} {h : xH} {Q : Outcome → xH → Prop} (hq : bX5_outside G fr lo x0 x1 x2 h Q) : xP G YX5_outside fr lo 0 [(0, rv x0), (1, rv x1), (2, rv x2)] [] h Q := by
  unfold bX5_outside at hq
  refine x_aload_n 2 dX5_outside_0 rfl ?_
  refine x_aload_n 1 dX5_outside_1 rfl ?_
  obtain ⟨g1, hq⟩ := hq
  obtain ⟨g2, g3, hq⟩ := hq
  refine x_callV (Yc := YX15_text) (as := []) (st := [rv x2]) q2009 mvX15_text g1 rfl dX5_outside_2 (xle (xal1 (rv_cat _) xal0) (by decide)) (xfr g2) (xlo (xsw1 (rv_cat _) xsw0) (by decide) g3) (xKr hq (fun x5 h4 hq e6 => ?_) (fun _ _ q _ => q))
  replace hq := hq e6
  obtain ⟨g7, hq⟩ := hq
  obtain ⟨g8, g9, hq⟩ := hq
  refine x_callV (Yc := YX7_own) (as := [rv x5]) (st := []) q2107 mvX7_own g7 rfl dX5_outside_5 (xle (xal1 (rv_cat _) (xal1 (rv_cat _) xal0)) (by decide)) (xfr g8) (xlo xsw0 (by decide) g9) (xKr hq (fun x11 h10 hq e12 => ?_) (fun _ _ q _ => q))
  replace hq := hq e12
  refine x_astore_n (lv' := [(3, rv x11), (0, rv x0), (1, rv x1), (2, rv x2)]) dX5_outside_8 (by decide) (by first | rfl | (simp [rv_cat, Value.category]; done) | (simp [rv_cat, Value.category]; decide)) ?_
  refine x_aload_n 0 dX5_outside_9 rfl ?_
  refine x_ifnull (tgt := 32) dX5_outside_10 (by decide) (fun c13 => ?_) (fun c13 => ?_)
  · replace hq := hq.1 c13
    refine xP.pick (lv' := [(0, rv x0), (1, rv x1)]) [1, 2] rfl ?_
    exact uX5_outside_32 hq
  · replace hq := hq.2 c13
    refine x_aload_n 0 dX5_outside_13 rfl ?_
    obtain ⟨g14, hq⟩ := hq
    refine x_getN (v := .int (fI h10 x11 2048)) gfX5_199 dX5_outside_14 g14 rfl ?_
    refine x_iconst (v := 2) dX5_outside_17 (by decide) ?_
    refine x_icmp_ne (tgt := 32) dX5_outside_18 (by decide) (fun c15 => ?_) (fun c15 => ?_)
    · replace hq := hq.1 c15
      refine xP.pick (lv' := [(0, rv x0), (1, rv x1)]) [1, 2] rfl ?_
      exact uX5_outside_32 hq
    · replace hq := hq.2 c15
      refine x_aload_n 0 dX5_outside_21 rfl ?_
      refine x_getN (v := rv (fR h10 x11 2050)) gfX5_249 dX5_outside_22 g14 rfl ?_
      refine x_aload_n 1 dX5_outside_25 rfl ?_
      obtain ⟨g16, hq⟩ := hq
      refine x_get (v := rv (fR h10 x0 1286)) fdX5_39 dX5_outside_26 g16 rfl ?_
      refine x_acmp_eq (tgt := 43) dX5_outside_29 (by decide) (fun c17 => ?_) (fun c17 => ?_)
      · replace hq := hq.1 c17
        exact x_vret rfl dX5_outside_43 hq
      · replace hq := hq.2 c17
        refine xP.pick (lv' := [(0, rv x0), (1, rv x1)]) [1, 2] rfl ?_
        exact uX5_outside_32 hq
theorem rX5_outside {G : xG} {fr lo : Nat} {x0 : Nat} {x1 : Nat} {x2 : Nat} {h : xH} {Q : Outcome → xH → Prop} (hq : bX5_outside G fr lo x0 x1 x2 h Q) : xR G YX5_outside fr lo [rv x0, rv x1, rv x2] h Q := by
  show xP _ _ _ _ _ (lv_args 0 _) _ _ _
  rw [show lv_args 0 [rv x0, rv x1, rv x2] = [(0, rv x0), (1, rv x1), (2, rv x2)] from (xla1 (rv_cat _) (xla1 (rv_cat _) (xla1 (rv_cat _) xla0)))]
  exact uX5_outside hq
set_option maxRecDepth 100000 in
theorem dX5_routine_0 : decode cX5_routine 0 = .ok (.aload_n 1, 1) := by decide +kernel
set_option maxRecDepth 100000 in
theorem dX5_routine_1 : decode cX5_routine 1 = .ok (.getfield 264, 3) := by decide +kernel
set_option maxRecDepth 100000 in
theorem dX5_routine_4 : decode cX5_routine 4 = .ok (.bipush 21, 2) := by decide +kernel
set_option maxRecDepth 100000 in
theorem dX5_routine_6 : decode cX5_routine 6 = .ok (.if_icmp .ne 7, 3) := by decide +kernel
set_option maxRecDepth 100000 in
theorem dX5_routine_9 : decode cX5_routine 9 = .ok (.iconst 1, 1) := by decide +kernel
set_option maxRecDepth 100000 in
theorem dX5_routine_10 : decode cX5_routine 10 = .ok (.goto 4, 3) := by decide +kernel
set_option maxRecDepth 100000 in
theorem dX5_routine_13 : decode cX5_routine 13 = .ok (.iconst 0, 1) := by decide +kernel
set_option maxRecDepth 100000 in
theorem dX5_routine_14 : decode cX5_routine 14 = .ok (.istore_n 3, 1) := by decide +kernel
set_option maxRecDepth 100000 in
theorem dX5_routine_15 : decode cX5_routine 15 = .ok (.aload_n 1, 1) := by decide +kernel
set_option maxRecDepth 100000 in
theorem dX5_routine_16 : decode cX5_routine 16 = .ok (.getfield 519, 3) := by decide +kernel
set_option maxRecDepth 100000 in
theorem dX5_routine_19 : decode cX5_routine 19 = .ok (.astore 4, 2) := by decide +kernel
set_option maxRecDepth 100000 in
theorem dX5_routine_21 : decode cX5_routine 21 = .ok (.aload_n 1, 1) := by decide +kernel
set_option maxRecDepth 100000 in
theorem dX5_routine_22 : decode cX5_routine 22 = .ok (.getfield 293, 3) := by decide +kernel
set_option maxRecDepth 100000 in
theorem dX5_routine_25 : decode cX5_routine 25 = .ok (.iconst 3, 1) := by decide +kernel
set_option maxRecDepth 100000 in
theorem dX5_routine_26 : decode cX5_routine 26 = .ok (.if_icmp .ne 7, 3) := by decide +kernel
set_option maxRecDepth 100000 in
theorem dX5_routine_29 : decode cX5_routine 29 = .ok (.iconst 1, 1) := by decide +kernel
set_option maxRecDepth 100000 in
theorem dX5_routine_30 : decode cX5_routine 30 = .ok (.goto 4, 3) := by decide +kernel
set_option maxRecDepth 100000 in
theorem dX5_routine_33 : decode cX5_routine 33 = .ok (.iconst 0, 1) := by decide +kernel
set_option maxRecDepth 100000 in
theorem dX5_routine_34 : decode cX5_routine 34 = .ok (.istore 5, 2) := by decide +kernel
set_option maxRecDepth 100000 in
theorem dX5_routine_36 : decode cX5_routine 36 = .ok (.aload 4, 2) := by decide +kernel
set_option maxRecDepth 100000 in
theorem dX5_routine_38 : decode cX5_routine 38 = .ok (.getfield 264, 3) := by decide +kernel
set_option maxRecDepth 100000 in
theorem dX5_routine_41 : decode cX5_routine 41 = .ok (.bipush 22, 2) := by decide +kernel
set_option maxRecDepth 100000 in
theorem dX5_routine_43 : decode cX5_routine 43 = .ok (.if_icmp .ne 7, 3) := by decide +kernel
set_option maxRecDepth 100000 in
theorem dX5_routine_46 : decode cX5_routine 46 = .ok (.iconst 1, 1) := by decide +kernel
set_option maxRecDepth 100000 in
theorem dX5_routine_47 : decode cX5_routine 47 = .ok (.goto 4, 3) := by decide +kernel
set_option maxRecDepth 100000 in
theorem dX5_routine_50 : decode cX5_routine 50 = .ok (.iconst 0, 1) := by decide +kernel
set_option maxRecDepth 100000 in
theorem dX5_routine_51 : decode cX5_routine 51 = .ok (.istore 6, 2) := by decide +kernel
set_option maxRecDepth 100000 in
theorem dX5_routine_53 : decode cX5_routine 53 = .ok (.aload_n 2, 1) := by decide +kernel
set_option maxRecDepth 100000 in
theorem dX5_routine_54 : decode cX5_routine 54 = .ok (.getfield 415, 3) := by decide +kernel
set_option maxRecDepth 100000 in
theorem dX5_routine_57 : decode cX5_routine 57 = .ok (.aload_n 1, 1) := by decide +kernel
set_option maxRecDepth 100000 in
theorem dX5_routine_58 : decode cX5_routine 58 = .ok (.invokevirtual 173, 3) := by decide +kernel
set_option maxRecDepth 100000 in
theorem dX5_routine_61 : decode cX5_routine 61 = .ok (.invokevirtual 159, 3) := by decide +kernel
set_option maxRecDepth 100000 in
theorem dX5_routine_64 : decode cX5_routine 64 = .ok (.astore 7, 2) := by decide +kernel
set_option maxRecDepth 100000 in
theorem dX5_routine_66 : decode cX5_routine 66 = .ok (.aload 7, 2) := by decide +kernel
set_option maxRecDepth 100000 in
theorem dX5_routine_68 : decode cX5_routine 68 = .ok (.ifnull 104, 3) := by decide +kernel
set_option maxRecDepth 100000 in
theorem dX5_routine_71 : decode cX5_routine 71 = .ok (.aload 7, 2) := by decide +kernel
set_option maxRecDepth 100000 in
theorem dX5_routine_73 : decode cX5_routine 73 = .ok (.getfield 199, 3) := by decide +kernel
set_option maxRecDepth 100000 in
theorem dX5_routine_76 : decode cX5_routine 76 = .ok (.iconst 3, 1) := by decide +kernel
set_option maxRecDepth 100000 in
theorem dX5_routine_77 : decode cX5_routine 77 = .ok (.if_icmp .ne 95, 3) := by decide +kernel
set_option maxRecDepth 100000 in
theorem dX5_routine_80 : decode cX5_routine 80 = .ok (.aload 7, 2) := by decide +kernel
set_option maxRecDepth 100000 in
theorem dX5_routine_82 : decode cX5_routine 82 = .ok (.getfield 492, 3) := by decide +kernel
set_option maxRecDepth 100000 in
theorem dX5_routine_85 : decode cX5_routine 85 = .ok (.getfield 493, 3) := by decide +kernel
set_option maxRecDepth 100000 in
theorem dX5_routine_88 : decode cX5_routine 88 = .ok (.ifCond .eq 84, 3) := by decide +kernel
set_option maxRecDepth 100000 in
theorem dX5_routine_91 : decode cX5_routine 91 = .ok (.aload 7, 2) := by decide +kernel
set_option maxRecDepth 100000 in
theorem dX5_routine_93 : decode cX5_routine 93 = .ok (.getfield 492, 3) := by decide +kernel
set_option maxRecDepth 100000 in
theorem dX5_routine_96 : decode cX5_routine 96 = .ok (.getfield 496, 3) := by decide +kernel
set_option maxRecDepth 100000 in
theorem dX5_routine_99 : decode cX5_routine 99 = .ok (.iconst (-1), 1) := by decide +kernel
set_option maxRecDepth 100000 in
theorem dX5_routine_100 : decode cX5_routine 100 = .ok (.if_icmp .ne 72, 3) := by decide +kernel
set_option maxRecDepth 100000 in
theorem dX5_routine_103 : decode cX5_routine 103 = .ok (.aload 7, 2) := by decide +kernel
set_option maxRecDepth 100000 in
theorem dX5_routine_105 : decode cX5_routine 105 = .ok (.getfield 492, 3) := by decide +kernel
set_option maxRecDepth 100000 in
theorem dX5_routine_108 : decode cX5_routine 108 = .ok (.getfield 522, 3) := by decide +kernel
set_option maxRecDepth 100000 in
theorem dX5_routine_111 : decode cX5_routine 111 = .ok (.ifCond .ne 61, 3) := by decide +kernel
set_option maxRecDepth 100000 in
theorem dX5_routine_114 : decode cX5_routine 114 = .ok (.aload 7, 2) := by decide +kernel
set_option maxRecDepth 100000 in
theorem dX5_routine_116 : decode cX5_routine 116 = .ok (.getfield 492, 3) := by decide +kernel
set_option maxRecDepth 100000 in
theorem dX5_routine_119 : decode cX5_routine 119 = .ok (.astore 8, 2) := by decide +kernel
set_option maxRecDepth 100000 in
theorem dX5_routine_121 : decode cX5_routine 121 = .ok (.aload 8, 2) := by decide +kernel
set_option maxRecDepth 100000 in
theorem dX5_routine_123 : decode cX5_routine 123 = .ok (.getfield 525, 3) := by decide +kernel
set_option maxRecDepth 100000 in
theorem dX5_routine_126 : decode cX5_routine 126 = .ok (.iload_n 3, 1) := by decide +kernel
set_option maxRecDepth 100000 in
theorem dX5_routine_127 : decode cX5_routine 127 = .ok (.if_icmp .eq 14, 3) := by decide +kernel
set_option maxRecDepth 100000 in
theorem dX5_routine_130 : decode cX5_routine 130 = .ok (.aload_n 0, 1) := by decide +kernel
set_option maxRecDepth 100000 in
theorem dX5_routine_131 : decode cX5_routine 131 = .ok (.bipush 6, 2) := by decide +kernel
set_option maxRecDepth 100000 in
theorem dX5_routine_133 : decode cX5_routine 133 = .ok (.aload_n 1, 1) := by decide +kernel
set_option maxRecDepth 100000 in
theorem dX5_routine_134 : decode cX5_routine 134 = .ok (.invokevirtual 192, 3) := by decide +kernel
set_option maxRecDepth 100000 in
theorem dX5_routine_137 : decode cX5_routine 137 = .ok (.invokevirtual 163, 3) := by decide +kernel
set_option maxRecDepth 100000 in
theorem dX5_routine_140 : decode cX5_routine 140 = .ok (.athrow, 1) := by decide +kernel
set_option maxRecDepth 100000 in
theorem dX5_routine_141 : decode cX5_routine 141 = .ok (.iload 6, 2) := by decide +kernel
set_option maxRecDepth 100000 in
theorem dX5_routine_143 : decode cX5_routine 143 = .ok (.ifCond .ne 18, 3) := by decide +kernel
set_option maxRecDepth 100000 in
theorem dX5_routine_146 : decode cX5_routine 146 = .ok (.iload 5, 2) := by decide +kernel
set_option maxRecDepth 100000 in
theorem dX5_routine_148 : decode cX5_routine 148 = .ok (.ifCond .ne 13, 3) := by decide +kernel
set_option maxRecDepth 100000 in
theorem dX5_routine_151 : decode cX5_routine 151 = .ok (.aload_n 1, 1) := by decide +kernel
set_option maxRecDepth 100000 in
theorem dX5_routine_152 : decode cX5_routine 152 = .ok (.getfield 251, 3) := by decide +kernel
set_option maxRecDepth 100000 in
theorem dX5_routine_155 : decode cX5_routine 155 = .ok (.getfield 251, 3) := by decide +kernel
set_option maxRecDepth 100000 in
theorem dX5_routine_158 : decode cX5_routine 158 = .ok (.ifnull 206, 3) := by decide +kernel
set_option maxRecDepth 100000 in
theorem dX5_routine_161 : decode cX5_routine 161 = .ok (.aload_n 0, 1) := by decide +kernel
set_option maxRecDepth 100000 in
theorem dX5_routine_162 : decode cX5_routine 162 = .ok (.bipush 9, 2) := by decide +kernel
set_option maxRecDepth 100000 in
theorem dX5_routine_164 : decode cX5_routine 164 = .ok (.aload_n 1, 1) := by decide +kernel
set_option maxRecDepth 100000 in
theorem dX5_routine_165 : decode cX5_routine 165 = .ok (.invokevirtual 192, 3) := by decide +kernel
set_option maxRecDepth 100000 in
theorem dX5_routine_168 : decode cX5_routine 168 = .ok (.invokevirtual 163, 3) := by decide +kernel
set_option maxRecDepth 100000 in
theorem dX5_routine_171 : decode cX5_routine 171 = .ok (.athrow, 1) := by decide +kernel
set_option maxRecDepth 100000 in
theorem dX5_routine_172 : decode cX5_routine 172 = .ok (.new 406, 3) := by decide +kernel
set_option maxRecDepth 100000 in
theorem dX5_routine_175 : decode cX5_routine 175 = .ok (.dup, 1) := by decide +kernel
set_option maxRecDepth 100000 in
theorem dX5_routine_176 : decode cX5_routine 176 = .ok (.aload_n 1, 1) := by decide +kernel
set_option maxRecDepth 100000 in
theorem dX5_routine_177 : decode cX5_routine 177 = .ok (.invokevirtual 173, 3) := by decide +kernel
set_option maxRecDepth 100000 in
theorem dX5_routine_180 : decode cX5_routine 180 = .ok (.iload_n 3, 1) := by decide +kernel
set_option maxRecDepth 100000 in
theorem dX5_routine_181 : decode cX5_routine 181 = .ok (.aload_n 1, 1) := by decide +kernel
set_option maxRecDepth 100000 in
theorem dX5_routine_182 : decode cX5_routine 182 = .ok (.invokevirtual 192, 3) := by decide +kernel
set_option maxRecDepth 100000 in
theorem dX5_routine_185 : decode cX5_routine 185 = .ok (.invokespecial 408, 3) := by decide +kernel
set_option maxRecDepth 100000 in
theorem dX5_routine_188 : decode cX5_routine 188 = .ok (.astore 8, 2) := by decide +kernel
set_option maxRecDepth 100000 in
theorem dX5_routine_190 : decode cX5_routine 190 = .ok (.aload 8, 2) := by decide +kernel
set_option maxRecDepth 100000 in
theorem dX5_routine_192 : decode cX5_routine 192 = .ok (.aload_n 2, 1) := by decide +kernel
set_option maxRecDepth 100000 in
theorem dX5_routine_193 : decode cX5_routine 193 = .ok (.getfield 447, 3) := by decide +kernel
set_option maxRecDepth 100000 in
theorem dX5_routine_196 : decode cX5_routine 196 = .ok (.iconst 1, 1) := by decide +kernel
set_option maxRecDepth 100000 in
theorem dX5_routine_197 : decode cX5_routine 197 = .ok (.iadd, 1) := by decide +kernel
set_option maxRecDepth 100000 in
theorem dX5_routine_198 : decode cX5_routine 198 = .ok (.putfield 447, 3) := by decide +kernel
set_option maxRecDepth 100000 in
theorem dX5_routine_201 : decode cX5_routine 201 = .ok (.aload 8, 2) := by decide +kernel
set_option maxRecDepth 100000 in
theorem dX5_routine_203 : decode cX5_routine 203 = .ok (.new 116, 3) := by decide +kernel
set_option maxRecDepth 100000 in
theorem dX5_routine_206 : decode cX5_routine 206 = .ok (.dup, 1) := by decide +kernel
set_option maxRecDepth 100000 in
theorem dX5_routine_207 : decode cX5_routine 207 = .ok (.aload_n 0, 1) := by decide +kernel
set_option maxRecDepth 100000 in
theorem dX5_routine_208 : decode cX5_routine 208 = .ok (.getfield 73, 3) := by decide +kernel
set_option maxRecDepth 100000 in
theorem dX5_routine_211 : decode cX5_routine 211 = .ok (.invokespecial 127, 3) := by decide +kernel
set_option maxRecDepth 100000 in
theorem dX5_routine_214 : decode cX5_routine 214 = .ok (.putfield 415, 3) := by decide +kernel
set_option maxRecDepth 100000 in
theorem dX5_routine_217 : decode cX5_routine 217 = .ok (.new 103, 3) := by decide +kernel
set_option maxRecDepth 100000 in
theorem dX5_routine_220 : decode cX5_routine 220 = .ok (.dup, 1) := by decide +kernel
set_option maxRecDepth 100000 in
theorem dX5_routine_221 : decode cX5_routine 221 = .ok (.iconst 3, 1) := by decide +kernel
set_option maxRecDepth 100000 in
theorem dX5_routine_222 : decode cX5_routine 222 = .ok (.aload_n 1, 1) := by decide +kernel
set_option maxRecDepth 100000 in
theorem dX5_routine_223 : decode cX5_routine 223 = .ok (.invokevirtual 173, 3) := by decide +kernel
set_option maxRecDepth 100000 in
theorem dX5_routine_226 : decode cX5_routine 226 = .ok (.aconst_null, 1) := by decide +kernel
set_option maxRecDepth 100000 in
theorem dX5_routine_227 : decode cX5_routine 227 = .ok (.invokespecial 109, 3) := by decide +kernel
set_option maxRecDepth 100000 in
theorem dX5_routine_230 : decode cX5_routine 230 = .ok (.astore 9, 2) := by decide +kernel
set_option maxRecDepth 100000 in
theorem dX5_routine_232 : decode cX5_routine 232 = .ok (.aload 9, 2) := by decide +kernel
set_option maxRecDepth 100000 in
theorem dX5_routine_234 : decode cX5_routine 234 = .ok (.aload 8, 2) := by decide +kernel
set_option maxRecDepth 100000 in
theorem dX5_routine_236 : decode cX5_routine 236 = .ok (.putfield 492, 3) := by decide +kernel
set_option maxRecDepth 100000 in
theorem dX5_routine_239 : decode cX5_routine 239 = .ok (.aload_n 0, 1) := by decide +kernel
set_option maxRecDepth 100000 in
theorem dX5_routine_240 : decode cX5_routine 240 = .ok (.aload_n 2, 1) := by decide +kernel
set_option maxRecDepth 100000 in
theorem dX5_routine_241 : decode cX5_routine 241 = .ok (.getfield 415, 3) := by decide +kernel
set_option maxRecDepth 100000 in
theorem dX5_routine_244 : decode cX5_routine 244 = .ok (.aload 9, 2) := by decide +kernel
set_option maxRecDepth 100000 in
theorem dX5_routine_246 : decode cX5_routine 246 = .ok (.aload_n 1, 1) := by decide +kernel
set_option maxRecDepth 100000 in
theorem dX5_routine_247 : decode cX5_routine 247 = .ok (.invokevirtual 192, 3) := by decide +kernel
set_option maxRecDepth 100000 in
theorem dX5_routine_250 : decode cX5_routine 250 = .ok (.invokevirtual 303, 3) := by decide +kernel
set_option maxRecDepth 100000 in
theorem dX5_routine_253 : decode cX5_routine 253 = .ok (.aload 8, 2) := by decide +kernel
set_option maxRecDepth 100000 in
theorem dX5_routine_255 : decode cX5_routine 255 = .ok (.aload_n 0, 1) := by decide +kernel
set_option maxRecDepth 100000 in
theorem dX5_routine_256 : decode cX5_routine 256 = .ok (.getfield 62, 3) := by decide +kernel
set_option maxRecDepth 100000 in
theorem dX5_routine_259 : decode cX5_routine 259 = .ok (.getfield 528, 3) := by decide +kernel
set_option maxRecDepth 100000 in
theorem dX5_routine_262 : decode cX5_routine 262 = .ok (.invokevirtual 490, 3) := by decide +kernel
set_option maxRecDepth 100000 in
theorem dX5_routine_265 : decode cX5_routine 265 = .ok (.putfield 531, 3) := by decide +kernel
set_option maxRecDepth 100000 in
theorem dX5_routine_268 : decode cX5_routine 268 = .ok (.aload_n 0, 1) := by decide +kernel
set_option maxRecDepth 100000 in
theorem dX5_routine_269 : decode cX5_routine 269 = .ok (.getfield 62, 3) := by decide +kernel
set_option maxRecDepth 100000 in
theorem dX5_routine_272 : decode cX5_routine 272 = .ok (.getfield 528, 3) := by decide +kernel
set_option maxRecDepth 100000 in
theorem dX5_routine_275 : decode cX5_routine 275 = .ok (.aload 8, 2) := by decide +kernel
set_option maxRecDepth 100000 in
theorem dX5_routine_277 : decode cX5_routine 277 = .ok (.invokevirtual 120, 3) := by decide +kernel
set_option maxRecDepth 100000 in
theorem dX5_routine_280 : decode cX5_routine 280 = .ok (.pop, 1) := by decide +kernel
set_option maxRecDepth 100000 in
theorem dX5_routine_281 : decode cX5_routine 281 = .ok (.aload 8, 2) := by decide +kernel
set_option maxRecDepth 100000 in
theorem dX5_routine_283 : decode cX5_routine 283 = .ok (.iload_n 3, 1) := by decide +kernel
set_option maxRecDepth 100000 in
theorem dX5_routine_284 : decode cX5_routine 284 = .ok (.ifCond .eq 7, 3) := by decide +kernel
set_option maxRecDepth 100000 in
theorem dX5_routine_287 : decode cX5_routine 287 = .ok (.iconst 1, 1) := by decide +kernel
set_option maxRecDepth 100000 in
theorem dX5_routine_288 : decode cX5_routine 288 = .ok (.goto 4, 3) := by decide +kernel
set_option maxRecDepth 100000 in
theorem dX5_routine_291 : decode cX5_routine 291 = .ok (.iconst 0, 1) := by decide +kernel
set_option maxRecDepth 100000 in
theorem dX5_routine_292 : decode cX5_routine 292 = .ok (.putfield 451, 3) := by decide +kernel
set_option maxRecDepth 100000 in
theorem dX5_routine_295 : decode cX5_routine 295 = .ok (.aload_n 0, 1) := by decide +kernel
set_option maxRecDepth 100000 in
theorem dX5_routine_296 : decode cX5_routine 296 = .ok (.getfield 73, 3) := by decide +kernel
set_option maxRecDepth 100000 in
theorem dX5_routine_299 : decode cX5_routine 299 = .ok (.astore 10, 2) := by decide +kernel
set_option maxRecDepth 100000 in
theorem dX5_routine_301 : decode cX5_routine 301 = .ok (.aload_n 0, 1) := by decide +kernel
set_option maxRecDepth 100000 in
theorem dX5_routine_302 : decode cX5_routine 302 = .ok (.aload 8, 2) := by decide +kernel
set_option maxRecDepth 100000 in
theorem dX5_routine_304 : decode cX5_routine 304 = .ok (.getfield 415, 3) := by decide +kernel
set_option maxRecDepth 100000 in
theorem dX5_routine_307 : decode cX5_routine 307 = .ok (.putfield 73, 3) := by decide +kernel
set_option maxRecDepth 100000 in
theorem dX5_routine_310 : decode cX5_routine 310 = .ok (.aload_n 0, 1) := by decide +kernel
set_option maxRecDepth 100000 in
theorem dX5_routine_311 : decode cX5_routine 311 = .ok (.aload_n 1, 1) := by decide +kernel
set_option maxRecDepth 100000 in
theorem dX5_routine_312 : decode cX5_routine 312 = .ok (.getfield 251, 3) := by decide +kernel
set_option maxRecDepth 100000 in
theorem dX5_routine_315 : decode cX5_routine 315 = .ok (.aload 8, 2) := by decide +kernel
set_option maxRecDepth 100000 in
theorem dX5_routine_317 : decode cX5_routine 317 = .ok (.invokevirtual 532, 3) := by decide +kernel
set_option maxRecDepth 100000 in
theorem dX5_routine_320 : decode cX5_routine 320 = .ok (.iload_n 3, 1) := by decide +kernel
set_option maxRecDepth 100000 in
theorem dX5_routine_321 : decode cX5_routine 321 = .ok (.ifCond .eq 19, 3) := by decide +kernel
set_option maxRecDepth 100000 in
theorem dX5_routine_324 : decode cX5_routine 324 = .ok (.iload 5, 2) := by decide +kernel
set_option maxRecDepth 100000 in
theorem dX5_routine_326 : decode cX5_routine 326 = .ok (.ifCond .ne 14, 3) := by decide +kernel
set_option maxRecDepth 100000 in
theorem dX5_routine_329 : decode cX5_routine 329 = .ok (.aload_n 0, 1) := by decide +kernel
set_option maxRecDepth 100000 in
theorem dX5_routine_330 : decode cX5_routine 330 = .ok (.bipush 9, 2) := by decide +kernel
set_option maxRecDepth 100000 in
theorem dX5_routine_332 : decode cX5_routine 332 = .ok (.aload_n 1, 1) := by decide +kernel
set_option maxRecDepth 100000 in
theorem dX5_routine_333 : decode cX5_routine 333 = .ok (.invokevirtual 192, 3) := by decide +kernel
set_option maxRecDepth 100000 in
theorem dX5_routine_336 : decode cX5_routine 336 = .ok (.invokevirtual 163, 3) := by decide +kernel
set_option maxRecDepth 100000 in
theorem dX5_routine_339 : decode cX5_routine 339 = .ok (.athrow, 1) := by decide +kernel
set_option maxRecDepth 100000 in
theorem dX5_routine_340 : decode cX5_routine 340 = .ok (.iload_n 3, 1) := by decide +kernel
set_option maxRecDepth 100000 in
theorem dX5_routine_341 : decode cX5_routine 341 = .ok (.ifCond .eq 17, 3) := by decide +kernel
set_option maxRecDepth 100000 in
theorem dX5_routine_344 : decode cX5_routine 344 = .ok (.aload 8, 2) := by decide +kernel
set_option maxRecDepth 100000 in
theorem dX5_routine_346 : decode cX5_routine 346 = .ok (.aload_n 0, 1) := by decide +kernel
set_option maxRecDepth 100000 in
theorem dX5_routine_347 : decode cX5_routine 347 = .ok (.aload_n 1, 1) := by decide +kernel
set_option maxRecDepth 100000 in
theorem dX5_routine_348 : decode cX5_routine 348 = .ok (.iconst 1, 1) := by decide +kernel
set_option maxRecDepth 100000 in
theorem dX5_routine_349 : decode cX5_routine 349 = .ok (.invokevirtual 310, 3) := by decide +kernel
set_option maxRecDepth 100000 in
theorem dX5_routine_352 : decode cX5_routine 352 = .ok (.invokevirtual 535, 3) := by decide +kernel
set_option maxRecDepth 100000 in
theorem dX5_routine_355 : decode cX5_routine 355 = .ok (.putfield 538, 3) := by decide +kernel
set_option maxRecDepth 100000 in
theorem dX5_routine_358 : decode cX5_routine 358 = .ok (.aload_n 0, 1) := by decide +kernel
set_option maxRecDepth 100000 in
theorem dX5_routine_359 : decode cX5_routine 359 = .ok (.aload 10, 2) := by decide +kernel
set_option maxRecDepth 100000 in
theorem dX5_routine_361 : decode cX5_routine 361 = .ok (.putfield 73, 3) := by decide +kernel
set_option maxRecDepth 100000 in
theorem dX5_routine_364 : decode cX5_routine 364 = .ok (.aload 8, 2) := by decide +kernel
set_option maxRecDepth 100000 in
theorem dX5_routine_366 : decode cX5_routine 366 = .ok (.iload 6, 2) := by decide +kernel
set_option maxRecDepth 100000 in
theorem dX5_routine_368 : decode cX5_routine 368 = .ok (.putfield 493, 3) := by decide +kernel
set_option maxRecDepth 100000 in
theorem dX5_routine_371 : decode cX5_routine 371 = .ok (.iload 6, 2) := by decide +kernel
set_option maxRecDepth 100000 in
theorem dX5_routine_373 : decode cX5_routine 373 = .ok (.ifCond .eq 4, 3) := by decide +kernel
set_option maxRecDepth 100000 in
theorem dX5_routine_376 : decode cX5_routine 376 = .ok (.return_, 1) := by decide +kernel
set_option maxRecDepth 100000 in
theorem dX5_routine_377 : decode cX5_routine 377 = .ok (.aload_n 0, 1) := by decide +kernel
set_option maxRecDepth 100000 in
theorem dX5_routine_378 : decode cX5_routine 378 = .ok (.getfield 73, 3) := by decide +kernel
set_option maxRecDepth 100000 in
theorem dX5_routine_381 : decode cX5_routine 381 = .ok (.astore 9, 2) := by decide +kernel
set_option maxRecDepth 100000 in
theorem dX5_routine_383 : decode cX5_routine 383 = .ok (.aload_n 0, 1) := by decide +kernel
set_option maxRecDepth 100000 in
theorem dX5_routine_384 : decode cX5_routine 384 = .ok (.aload 8, 2) := by decide +kernel
set_option maxRecDepth 100000 in
theorem dX5_routine_386 : decode cX5_routine 386 = .ok (.getfield 415, 3) := by decide +kernel
set_option maxRecDepth 100000 in
theorem dX5_routine_389 : decode cX5_routine 389 = .ok (.putfield 73, 3) := by decide +kernel
set_option maxRecDepth 100000 in
theorem dX5_routine_392 : decode cX5_routine 392 = .ok (.aload_n 0, 1) := by decide +kernel
set_option maxRecDepth 100000 in
theorem dX5_routine_393 : decode cX5_routine 393 = .ok (.aload 4, 2) := by decide +kernel
set_option maxRecDepth 100000 in
theorem dX5_routine_395 : decode cX5_routine 395 = .ok (.aload 8, 2) := by decide +kernel
set_option maxRecDepth 100000 in
theorem dX5_routine_397 : decode cX5_routine 397 = .ok (.aconst_null, 1) := by decide +kernel
set_option maxRecDepth 100000 in
theorem dX5_routine_398 : decode cX5_routine 398 = .ok (.invokevirtual 439, 3) := by decide +kernel
set_option maxRecDepth 100000 in
theorem dX5_routine_401 : decode cX5_routine 401 = .ok (.aload_n 0, 1) := by decide +kernel
set_option maxRecDepth 100000 in
theorem dX5_routine_402 : decode cX5_routine 402 = .ok (.aload 9, 2) := by decide +kernel
set_option maxRecDepth 100000 in
theorem dX5_routine_404 : decode cX5_routine 404 = .ok (.putfield 73, 3) := by decide +kernel
set_option maxRecDepth 100000 in
theorem dX5_routine_407 : decode cX5_routine 407 = .ok (.iload_n 3, 1) := by decide +kernel
set_option maxRecDepth 100000 in
theorem dX5_routine_408 : decode cX5_routine 408 = .ok (.ifCond .eq 22, 3) := by decide +kernel
set_option maxRecDepth 100000 in
theorem dX5_routine_411 : decode cX5_routine 411 = .ok (.aload 8, 2) := by decide +kernel
set_option maxRecDepth 100000 in
theorem dX5_routine_413 : decode cX5_routine 413 = .ok (.getfield 540, 3) := by decide +kernel
set_option maxRecDepth 100000 in
theorem dX5_routine_416 : decode cX5_routine 416 = .ok (.ifCond .ne 14, 3) := by decide +kernel
set_option maxRecDepth 100000 in
theorem dX5_routine_419 : decode cX5_routine 419 = .ok (.aload_n 0, 1) := by decide +kernel
set_option maxRecDepth 100000 in
theorem dX5_routine_420 : decode cX5_routine 420 = .ok (.bipush 10, 2) := by decide +kernel
set_option maxRecDepth 100000 in
theorem dX5_routine_422 : decode cX5_routine 422 = .ok (.aload_n 1, 1) := by decide +kernel
set_option maxRecDepth 100000 in
theorem dX5_routine_423 : decode cX5_routine 423 = .ok (.invokevirtual 192, 3) := by decide +kernel
set_option maxRecDepth 100000 in
theorem dX5_routine_426 : decode cX5_routine 426 = .ok (.invokevirtual 163, 3) := by decide +kernel
set_option maxRecDepth 100000 in
theorem dX5_routine_429 : decode cX5_routine 429 = .ok (.athrow, 1) := by decide +kernel
set_option maxRecDepth 100000 in
theorem dX5_routine_430 : decode cX5_routine 430 = .ok (.return_, 1) := by decide +kernel
set_option maxRecDepth 100000 in
def bX5_routine_430 (G : xG) (fr lo : Nat) (h : xH) (Q : Outcome → xH → Prop) : Prop := Q (.returned none) h
set_option maxRecDepth 100000 in
theorem uX5_routine_430 {G : xG} {fr lo : Nat} {h : xH} {Q : Outcome → xH → Prop} (hq : bX5_routine_430 G fr lo h Q) : xP G YX5_routine fr lo 430 [] [] h Q := by
  unfold bX5_routine_430 at hq
  exact x_vret rfl dX5_routine_430 hq
set_option maxRecDepth 100000 in
def bX5_routine_364 (G : xG) (fr lo : Nat) (x0 : Nat) (x1 : Nat) (x3 : Int32) (x4 : Nat) (x6 : Int32) (x8 : Nat) (h : xH) (Q : Outcome → xH → Prop) : Prop := tg h x8 = 17 ∧ xbz x6 ∧ (∀ h3 : xH, h3 = sI h x8 4109 x6 → ((x6 = 0 → tg h3 x0 = 6 ∧ (∀ h8 : xH, h8 = sR h3 x0 1293 (fR h3 x8 4101) → 1 ≤ fr ∧ 18 ≤ lo ∧ xRv G YX5_block (fr - 1) (lo - 18) [rv x0, rv x4, rv x8, rv 0] h8 (fun h13 => xext h8 h13 → (∀ h17 : xH, h17 = sR h13 x0 1293 (fR h3 x0 1293) → ((x3 = 0 → bX5_routine_430 G fr lo h17 Q) ∧ (¬ x3 = 0 → ((¬ (fI h17 x8 4110) = 0 → bX5_routine_430 G fr lo h17 Q) ∧ ((fI h17 x8 4110) = 0 → tg h17 x1 = 16 ∧ 1 ≤ fr ∧ 14 ≤ lo ∧ xRi G YX15_place (fr - 1) (lo - 14) [rv x1] h17 (fun x28 h27 => xext h17 h27 → 1 ≤ fr ∧ 14 ≤ lo ∧ xRr G YX5_fault (fr - 1) (lo - 14) [rv x0, .int 10, .int x28] h27 (fun x35 h34 => xext h27 h34 → (∃ r37, x35 = r37 + 1 ∧ Q (.threw r37) h34)) (fun r h2 => Q (.threw r) h2)) (fun r h2 => Q (.threw r) h2))))))) (fun r h2 => Q (.threw r) h2))) ∧ (¬ x6 = 0 → Q (.returned none) h3)))
set_option maxRecDepth 100000 in
theorem uX5_routine_364 {G : xG} {fr lo : Nat} {x0 : Nat} {x1 : Nat} {x3 : Int32} {x4 : Nat} {x6 : Int32} {x8 : Nat} {h : xH} {Q : Outcome → xH → Prop} (hq : bX5_routine_364 G fr lo x0 x1 x3 x4 x6 x8 h Q) : xP G YX5_routine fr lo 364 [(0, rv x0), (1, rv x1), (3, .int x3), (4, rv x4), (6, .int x6), (8, rv x8)] [] h Q := by
  unfold bX5_routine_364 at hq
  refine x_aload 5 dX5_routine_364 rfl ?_
  refine x_iload 4 dX5_routine_366 rfl ?_
  obtain ⟨g1, hq⟩ := hq
  obtain ⟨g2, hq⟩ := hq
  obtain ⟨h3, e4⟩ : ∃ y, y = sI h x8 4109 x6 := ⟨_, rfl⟩
  replace hq := hq h3 e4
  refine x_putNI gfX5_493 xty_Z1 dX5_routine_368 g1 (Or.inl (by rw [g1]; rfl)) (xnB g2) rfl e4 ?_
  refine x_iload 4 dX5_routine_371 rfl ?_
  refine x_if_eq (tgt := 377) dX5_routine_373 (by decide) (fun c5 => ?_) (fun c5 => ?_)
  · replace hq := hq.1 c5
    refine x_aload_n 0 dX5_routine_377 rfl ?_
    obtain ⟨g6, hq⟩ := hq
    refine x_get (v := rv (fR h3 x0 1293)) fdX5_73 dX5_routine_378 g6 rfl ?_
    refine x_astore (lv' := [(9, rv (fR h3 x0 1293)), (0, rv x0), (1, rv x1), (3, .int x3), (4, rv x4), (6, .int x6), (8, rv x8)]) dX5_routine_381 (by decide) (by first | rfl | (simp [rv_cat, Value.category]; done) | (simp [rv_cat, Value.category]; decide)) ?_
    refine x_aload_n 1 dX5_routine_383 rfl ?_
    refine x_aload 6 dX5_routine_384 rfl ?_
    have t7 : tg h3 x8 = 17 := by rw [e4]; exact g1
    refine x_getN (v := rv (fR h3 x8 4101)) gfX5_415 dX5_routine_386 t7 rfl ?_
    obtain ⟨h8, e9⟩ : ∃ y, y = sR h3 x0 1293 (fR h3 x8 4101) := ⟨_, rfl⟩
    replace hq := hq h8 e9
    refine x_putR fdX5_73 xty_O dX5_routine_389 g6 (Or.inl (by rw [g6]; rfl)) rfl e9 ?_
    refine x_aload_n 1 dX5_routine_392 rfl ?_
    refine x_aload 4 dX5_routine_393 rfl ?_
    refine x_aload 6 dX5_routine_395 rfl ?_
    refine x_null dX5_routine_397 ?_
    have t10 : tg h8 x0 = 6 := by rw [e9]; exact g6
    obtain ⟨g11, g12, hq⟩ := hq
    refine x_callV (Yc := YX5_block) (as := [rv x4, rv x8, rv 0]) (st := []) q2133 mvX5_block t10 rfl dX5_routine_398 (xle (xal1 (rv_cat _) (xal1 (rv_cat _) (xal1 (rv_cat _) (xal1 (rv_cat _) xal0)))) (by decide)) (xfr g11) (xlo xsw0 (by decide) g12) (xKv hq (fun h13 hq e15 => ?_) (fun _ _ q _ => q))
    replace hq := hq e15
    refine x_aload_n 1 dX5_routine_401 rfl ?_
    refine x_aload 0 dX5_routine_402 rfl ?_
    have t16 : tg h13 x0 = 6 := e15.tg t10 (by decide)
    obtain ⟨h17, e18⟩ : ∃ y, y = sR h13 x0 1293 (fR h3 x0 1293) := ⟨_, rfl⟩
    replace hq := hq h17 e18
    refine x_putR fdX5_73 xty_O dX5_routine_404 t16 (Or.inl (by rw [t16]; rfl)) rfl e18 ?_
    refine x_iload_n 3 dX5_routine_407 rfl ?_
    refine x_if_eq (tgt := 430) dX5_routine_408 (by decide) (fun c19 => ?_) (fun c19 => ?_)
    · replace hq := hq.1 c19
      refine xP.pick (lv' := []) [] rfl ?_
      exact uX5_routine_430 hq
    · replace hq := hq.2 c19
      refine x_aload 6 dX5_routine_411 rfl ?_
      have t20 : tg h8 x8 = 17 := by rw [e9]; exact t7
      have t21 : tg h13 x8 = 17 := e15.tg t20 (by decide)
      have t22 : tg h17 x8 = 17 := by rw [e18]; exact t21
      refine x_getN (v := .int (fI h17 x8 4110)) gfX5_540 dX5_routine_413 t22 rfl ?_
      refine x_if_ne (tgt := 430) dX5_routine_416 (by decide) (fun c23 => ?_) (fun c23 => ?_)
      · replace hq := hq.1 c23
        refine xP.pick (lv' := []) [] rfl ?_
        exact uX5_routine_430 hq
      · replace hq := hq.2 c23
        refine x_aload_n 1 dX5_routine_419 rfl ?_
        refine x_bipush (v := 10) dX5_routine_420 (by decide) ?_
        refine x_aload_n 2 dX5_routine_422 rfl ?_
        obtain ⟨g24, hq⟩ := hq
        obtain ⟨g25, g26, hq⟩ := hq
        refine x_callV (Yc := YX15_place) (as := []) (st := [.int 10, rv x0]) q2013 mvX15_place g24 rfl dX5_routine_423 (xle (xal1 (rv_cat _) xal0) (by decide)) (xfr g25) (xlo (xsw1 rfl (xsw1 (rv_cat _) xsw0)) (by decide) g26) (xKi hq (fun x28 h27 hq e29 => ?_) (fun _ _ q _ => q))
        replace hq := hq e29
        have t30 : tg h17 x0 = 6 := by rw [e18]; exact t16
        have t31 : tg h27 x0 = 6 := e29.tg t30 (by decide)
        obtain ⟨g32, g33, hq⟩ := hq
        refine x_callV (Yc := YX5_fault) (as := [.int 10, .int x28]) (st := []) q2087 mvX5_fault t31 rfl dX5_routine_426 (xle (xal1 (rv_cat _) (xal1 rfl (xal1 rfl xal0))) (by decide)) (xfr g32) (xlo xsw0 (by decide) g33) (xKr hq (fun x35 h34 hq e36 => ?_) (fun _ _ q _ => q))
        replace hq := hq e36
        obtain ⟨r37, g38, hq⟩ := hq
        rw [g38]
        exact x_athrow dX5_routine_429 hq
  · replace hq := hq.2 c5
    exact x_vret rfl dX5_routine_376 hq
set_option maxRecDepth 100000 in
def bX5_routine_358 (G : xG) (fr lo : Nat) (x0 : Nat) (x1 : Nat) (x3 : Int32) (x4 : Nat) (x6 : Int32) (x8 : Nat) (x10 : Nat) (h : xH) (Q : Outcome → xH → Prop) : Prop := tg h x0 = 6 ∧ (∀ h2 : xH, h2 = sR h x0 1293 x10 → bX5_routine_364 G fr lo x0 x1 x3 x4 x6 x8 h2 Q)
set_option maxRecDepth 100000 in
theorem uX5_routine_358 {G : xG} {fr lo : Nat} {x0 : Nat} {x1 : Nat} {x3 : Int32} {x4 : Nat} {x6 : Int32} {x8 : Nat} {x10 : Nat} {h : xH} {Q : Outcome → xH → Prop} (hq : bX5_routine_358 G fr lo x0 x1 x3 x4 x6 x8 x10 h Q) : xP G YX5_routine fr lo 358 [(0, rv x0), (1, rv x1), (3, .int x3), (4, rv x4), (6, .int x6), (8, rv x8), (10, rv x10)] [] h Q := by
  unfold bX5_routine_358 at hq
  refine x_aload_n 0 dX5_routine_358 rfl ?_
  refine x_aload 6 dX5_routine_359 rfl ?_
  obtain ⟨g1, hq⟩ := hq
  obtain ⟨h2, e3⟩ : ∃ y, y = sR h x0 1293 x10 := ⟨_, rfl⟩
  replace hq := hq h2 e3
  refine x_putR fdX5_73 xty_O dX5_routine_361 g1 (Or.inl (by rw [g1]; rfl)) rfl e3 ?_
  refine xP.pick (lv' := [(0, rv x0), (1, rv x1), (3, .int x3), (4, rv x4), (6, .int x6), (8, rv x8)]) [0, 1, 2, 3, 4, 5] rfl ?_
  exact uX5_routine_364 hq
set_option maxRecDepth 100000 in
def bX5_routine_340 (G : xG) (fr lo : Nat) (x0 : Nat) (x1 : Nat) (x3 : Int32) (x4 : Nat) (x6 : Int32) (x8 : Nat) (x10 : Nat) (h : xH) (Q : Outcome → xH → Prop) : Prop := ((x3 = 0 → bX5_routine_358 G fr lo x0 x1 x3 x4 x6 x8 x10 h Q) ∧ (¬ x3 = 0 → tg h x1 = 16 ∧ 1 ≤ fr ∧ 17 ≤ lo ∧ xRr G YX15_kid (fr - 1) (lo - 17) [rv x1, .int 1] h (fun x6 h5 => xext h h5 → tg h5 x0 = 6 ∧ 1 ≤ fr ∧ 15 ≤ lo ∧ xRr G YX5_result (fr - 1) (lo - 15) [rv x0, rv x6] h5 (fun x12 h11 => xext h5 h11 → tg h11 x8 = 17 ∧ (∀ h15 : xH, h15 = sR h11 x8 4100 x12 → bX5_routine_358 G fr lo x0 x1 x3 x4 x6 x8 x10 h15 Q)) (fun r h2 => Q (.threw r) h2)) (fun r h2 => Q (.threw r) h2)))
set_option maxRecDepth 100000 in
theorem uX5_routine_340 {G : xG} {fr lo : Nat} {x0 : Nat} {x1 : Nat} {x3 : Int32} {x4 : Nat} {x6 : Int32} {x8 : Nat} {x10 : Nat} {h : xH} {Q : Outcome → xH → Prop} (hq : bX5_routine_340 G fr lo x0 x1 x3 x4 x6 x8 x10 h Q) : xP G YX5_routine fr lo 340 [(0, rv x0), (1, rv x1), (3, .int x3), (4, rv x4), (6, .int x6), (8, rv x8), (10, rv x10)] [] h Q := by
  unfold bX5_routine_340 at hq
  refine x_iload_n 2 dX5_routine_340 rfl ?_
  refine x_if_eq (tgt := 358) dX5_routine_341 (by decide) (fun c1 => ?_) (fun c1 => ?_)
  · replace hq := hq.1 c1
    exact uX5_routine_358 hq
  · replace hq := hq.2 c1
    refine x_aload 5 dX5_routine_344 rfl ?_
    refine x_aload_n 0 dX5_routine_346 rfl ?_
    refine x_aload_n 1 dX5_routine_347 rfl ?_
    refine x_iconst (v := 1) dX5_routine_348 (by decide) ?_
    obtain ⟨g2, hq⟩ := hq
    obtain ⟨g3, g4, hq⟩ := hq
    refine x_callV (Yc := YX15_kid) (as := [.int 1]) (st := [rv x0, rv x8]) q2129 mvX15_kid g2 rfl dX5_routine_349 (xle (xal1 (rv_cat _) (xal1 rfl xal0)) (by decide)) (xfr g3) (xlo (xsw1 (rv_cat _) (xsw1 (rv_cat _) xsw0)) (by decide) g4) (xKr hq (fun x6 h5 hq e7 => ?_) (fun _ _ q _ => q))
    replace hq := hq e7
    obtain ⟨g8, hq⟩ := hq
    obtain ⟨g9, g10, hq⟩ := hq
    refine x_callV (Yc := YX5_result) (as := [rv x6]) (st := [rv x8]) q2447 mvX5_result g8 rfl dX5_routine_352 (xle (xal1 (rv_cat _) (xal1 (rv_cat _) xal0)) (by decide)) (xfr g9) (xlo (xsw1 (rv_cat _) xsw0) (by decide) g10) (xKr hq (fun x12 h11 hq e13 => ?_) (fun _ _ q _ => q))
    replace hq := hq e13
    obtain ⟨g14, hq⟩ := hq
    obtain ⟨h15, e16⟩ : ∃ y, y = sR h11 x8 4100 x12 := ⟨_, rfl⟩
    replace hq := hq h15 e16
    refine x_putNR gfX5_538 xty_O dX5_routine_355 g14 (Or.inl (by rw [g14]; rfl)) rfl e16 ?_
    exact uX5_routine_358 hq
set_option maxRecDepth 100000 in
def bX5_routine_292 (G : xG) (fr lo : Nat) (x0 : Nat) (x1 : Nat) (x3 : Int32) (x4 : Nat) (x5 : Int32) (x6 : Int32) (x8 : Nat) (s0 : Int32) (s1 : Nat) (h : xH) (Q : Outcome → xH → Prop) : Prop := tg h s1 = 17 ∧ (∀ h2 : xH, h2 = sI h s1 4104 s0 → tg h2 x0 = 6 ∧ tg h2 x8 = 17 ∧ (∀ h6 : xH, h6 = sR h2 x0 1293 (fR h2 x8 4101) → tg h6 x1 = 16 ∧ 1 ≤ fr ∧ 19 ≤ lo ∧ xRv G YX5_parameters (fr - 1) (lo - 19) [rv x0, rv (fR h6 x1 3842), rv x8] h6 (fun h12 => xext h6 h12 → ((x3 = 0 → bX5_routine_340 G fr lo x0 x1 x3 x4 x6 x8 (fR h2 x0 1293) h12 Q) ∧ (¬ x3 = 0 → ((¬ x5 = 0 → bX5_routine_340 G fr lo x0 x1 x3 x4 x6 x8 (fR h2 x0 1293) h12 Q) ∧ (x5 = 0 → 1 ≤ fr ∧ 14 ≤ lo ∧ xRi G YX15_place (fr - 1) (lo - 14) [rv x1] h12 (fun x21 h20 => xext h12 h20 → 1 ≤ fr ∧ 14 ≤ lo ∧ xRr G YX5_fault (fr - 1) (lo - 14) [rv x0, .int 9, .int x21] h20 (fun x28 h27 => xext h20 h27 → (∃ r30, x28 = r30 + 1 ∧ Q (.threw r30) h27)) (fun r h2 => Q (.threw r) h2)) (fun r h2 => Q (.threw r) h2)))))) (fun r h2 => Q (.threw r) h2)))
set_option maxRecDepth 100000 in
theorem uX5_routine_292 {G : xG} {fr lo : Nat} {x0 : Nat} {x1 : Nat} {x3 : Int32} {x4 : Nat} {x5 : Int32} {x6 : Int32} {x8 : Nat} {s0 : Int32} {s1 : Nat} {h : xH} {Q : Outcome → xH → Prop} (hq : bX5_routine_292 G fr lo x0 x1 x3 x4 x5 x6 x8 s0 s1 h Q) : xP G YX5_routine fr lo 292 [(0, rv x0), (1, rv x1), (3, .int x3), (4, rv x4), (5, .int x5), (6, .int x6), (8, rv x8)] [.int s0, rv s1] h Q := by
  unfold bX5_routine_292 at hq
  obtain ⟨g1, hq⟩ := hq
  obtain ⟨h2, e3⟩ : ∃ y, y = sI h s1 4104 s0 := ⟨_, rfl⟩
  replace hq := hq h2 e3
  refine x_putNI gfX5_451 xty_I1 dX5_routine_292 g1 (Or.inl (by rw [g1]; rfl)) xnI rfl e3 ?_
  refine x_aload_n 0 dX5_routine_295 rfl ?_
  obtain ⟨g4, hq⟩ := hq
  refine x_get (v := rv (fR h2 x0 1293)) fdX5_73 dX5_routine_296 g4 rfl ?_
  refine x_astore (lv' := [(10, rv (fR h2 x0 1293)), (0, rv x0), (1, rv x1), (3, .int x3), (4, rv x4), (5, .int x5), (6, .int x6), (8, rv x8)]) dX5_routine_299 (by decide) rfl ?_
  refine x_aload_n 1 dX5_routine_301 rfl ?_
  refine x_aload 7 dX5_routine_302 rfl ?_
  obtain ⟨g5, hq⟩ := hq
  refine x_getN (v := rv (fR h2 x8 4101)) gfX5_415 dX5_routine_304 g5 rfl ?_
  obtain ⟨h6, e7⟩ : ∃ y, y = sR h2 x0 1293 (fR h2 x8 4101) := ⟨_, rfl⟩
  replace hq := hq h6 e7
  refine x_putR fdX5_73 xty_O dX5_routine_307 g4 (Or.inl (by rw [g4]; rfl)) rfl e7 ?_
  refine x_aload_n 1 dX5_routine_310 rfl ?_
  refine x_aload_n 2 dX5_routine_311 rfl ?_
  obtain ⟨g8, hq⟩ := hq
  refine x_getN (v := rv (fR h6 x1 3842)) gfX5_251 dX5_routine_312 g8 rfl ?_
  refine x_aload 7 dX5_routine_315 rfl ?_
  have t9 : tg h6 x0 = 6 := by rw [e7]; exact g4
  obtain ⟨g10, g11, hq⟩ := hq
  refine x_callV (Yc := YX5_parameters) (as := [rv (fR h6 x1 3842), rv x8]) (st := []) q2439 mvX5_parameters t9 rfl dX5_routine_317 (xle (xal1 (rv_cat _) (xal1 (rv_cat _) (xal1 (rv_cat _) xal0))) (by decide)) (xfr g10) (xlo xsw0 (by decide) g11) (xKv hq (fun h12 hq e14 => ?_) (fun _ _ q _ => q))
  replace hq := hq e14
  refine x_iload_n 3 dX5_routine_320 rfl ?_
  refine x_if_eq (tgt := 340) dX5_routine_321 (by decide) (fun c15 => ?_) (fun c15 => ?_)
  · replace hq := hq.1 c15
    refine xP.pick (lv' := [(0, rv x0), (1, rv x1), (3, .int x3), (4, rv x4), (6, .int x6), (8, rv x8), (10, rv (fR h2 x0 1293))]) [1, 2, 3, 4, 6, 7, 0] rfl ?_
    exact uX5_routine_340 hq
  · replace hq := hq.2 c15
    refine x_iload 5 dX5_routine_324 rfl ?_
    refine x_if_ne (tgt := 340) dX5_routine_326 (by decide) (fun c16 => ?_) (fun c16 => ?_)
    · replace hq := hq.1 c16
      refine xP.pick (lv' := [(0, rv x0), (1, rv x1), (3, .int x3), (4, rv x4), (6, .int x6), (8, rv x8), (10, rv (fR h2 x0 1293))]) [1, 2, 3, 4, 6, 7, 0] rfl ?_
      exact uX5_routine_340 hq
    · replace hq := hq.2 c16
      refine x_aload_n 1 dX5_routine_329 rfl ?_
      refine x_bipush (v := 9) dX5_routine_330 (by decide) ?_
      refine x_aload_n 2 dX5_routine_332 rfl ?_
      have t17 : tg h12 x1 = 16 := e14.tg g8 (by decide)
      obtain ⟨g18, g19, hq⟩ := hq
      refine x_callV (Yc := YX15_place) (as := []) (st := [.int 9, rv x0]) q2013 mvX15_place t17 rfl dX5_routine_333 (xle (xal1 (rv_cat _) xal0) (by decide)) (xfr g18) (xlo (xsw1 rfl (xsw1 (rv_cat _) xsw0)) (by decide) g19) (xKi hq (fun x21 h20 hq e22 => ?_) (fun _ _ q _ => q))
      replace hq := hq e22
      have t23 : tg h12 x0 = 6 := e14.tg t9 (by decide)
      have t24 : tg h20 x0 = 6 := e22.tg t23 (by decide)
      obtain ⟨g25, g26, hq⟩ := hq
      refine x_callV (Yc := YX5_fault) (as := [.int 9, .int x21]) (st := []) q2087 mvX5_fault t24 rfl dX5_routine_336 (xle (xal1 (rv_cat _) (xal1 rfl (xal1 rfl xal0))) (by decide)) (xfr g25) (xlo xsw0 (by decide) g26) (xKr hq (fun x28 h27 hq e29 => ?_) (fun _ _ q _ => q))
      replace hq := hq e29
      obtain ⟨r30, g31, hq⟩ := hq
      rw [g31]
      exact x_athrow dX5_routine_339 hq
set_option maxRecDepth 100000 in
def bX5_routine_172 (G : xG) (fr lo : Nat) (x0 : Nat) (x1 : Nat) (x2 : Nat) (x3 : Int32) (x4 : Nat) (x5 : Int32) (x6 : Int32) (h : xH) (Q : Outcome → xH → Prop) : Prop := nx h + 1 ≤ xGN G ∧ us h + 16 ≤ xGU G ∧ (∀ (a3 : Nat) (h4 : xH), a3 = nx h + 1 → h4 = nO h 17 16 → xfresh h a3 → tg h4 x1 = 16 ∧ 1 ≤ fr ∧ 14 ≤ lo ∧ xRr G YX15_text (fr - 1) (lo - 14) [rv x1] h4 (fun x13 h12 => xext h4 h12 → 1 ≤ fr ∧ 16 ≤ lo ∧ xRi G YX15_place (fr - 1) (lo - 16) [rv x1] h12 (fun x19 h18 => xext h12 h18 → 1 ≤ fr ∧ 16 ≤ lo ∧ xRv G YX16_init (fr - 1) (lo - 16) [rv a3, rv x13, .int x3, .int x19] h18 (fun h25 => xext h18 h25 → tg h25 x2 = 17 ∧ (∀ h30 : xH, h30 = sI h25 a3 4102 ((fI h25 x2 4102) + 1) → nx h30 + 1 ≤ xGN G ∧ us h30 + 4 ≤ xGU G ∧ (∀ (a34 : Nat) (h35 : xH), a34 = nx h30 + 1 → h35 = nO h30 8 4 → xfresh h30 a34 → tg h35 x0 = 6 ∧ 1 ≤ fr ∧ 15 ≤ lo ∧ xRv G YX7_init (fr - 1) (lo - 15) [rv a34, rv (fR h35 x0 1293)] h35 (fun h43 => xext h35 h43 → (∀ h49 : xH, h49 = sR h43 a3 4101 a34 → nx h49 + 1 ≤ xGN G ∧ us h49 + 12 ≤ xGU G ∧ (∀ (a53 : Nat) (h54 : xH), a53 = nx h49 + 1 → h54 = nO h49 9 12 → xfresh h49 a53 → 1 ≤ fr ∧ 15 ≤ lo ∧ xRr G YX15_text (fr - 1) (lo - 15) [rv x1] h54 (fun x69 h68 => xext h54 h68 → 1 ≤ fr ∧ 16 ≤ lo ∧ xRv G YX8_init (fr - 1) (lo - 16) [rv a53, .int 3, rv x69, rv 0] h68 (fun h74 => xext h68 h74 → (∀ h78 : xH, h78 = sR h74 a53 2059 a3 → 1 ≤ fr ∧ 15 ≤ lo ∧ xRi G YX15_place (fr - 1) (lo - 15) [rv x1] h78 (fun x94 h93 => xext h78 h93 → 1 ≤ fr ∧ 15 ≤ lo ∧ xRv G YX5_define (fr - 1) (lo - 15) [rv x0, rv (fR h78 x2 4101), rv a53, .int x94] h93 (fun h105 => xext h93 h105 → tg h105 (fR h105 x0 1281) = 3 ∧ tg h105 (fR h105 (fR h105 x0 1281) 522) = 29 ∧ 1 ≤ fr ∧ 13 ≤ lo ∧ xRi G YJ2_size (fr - 1) (lo - 13) [rv (fR h105 (fR h105 x0 1281) 522)] h105 (fun x114 h113 => xext h105 h113 → (∀ h124 : xH, h124 = sI h113 a3 4105 x114 → tg h124 (fR h124 x0 1281) = 3 ∧ tg h124 (fR h124 (fR h124 x0 1281) 522) = 29 ∧ 1 ≤ fr ∧ 13 ≤ lo ∧ xRi G YJ2_add (fr - 1) (lo - 13) [rv (fR h124 (fR h124 x0 1281) 522), rv a3] h124 (fun x133 h132 => xext h124 h132 → ((x3 = 0 → bX5_routine_292 G fr lo x0 x1 x3 x4 x5 x6 a3 0 a3 h132 Q) ∧ (¬ x3 = 0 → bX5_routine_292 G fr lo x0 x1 x3 x4 x5 x6 a3 1 a3 h132 Q))) (fun r h2 => Q (.threw r) h2))) (fun r h2 => Q (.threw r) h2)) (fun r h2 => Q (.threw r) h2)) (fun r h2 => Q (.threw r) h2))) (fun r h2 => Q (.threw r) h2)) (fun r h2 => Q (.threw r) h2)))) (fun r h2 => Q (.threw r) h2)))) (fun r h2 => Q (.threw r) h2)) (fun r h2 => Q (.threw r) h2)) (fun r h2 => Q (.threw r) h2))
set_option maxRecDepth 100000 in
theorem uX5_routine_172 {G : xG} {fr lo : Nat} {x0 : Nat} {x1 : Nat} {x2 : Nat} {x3 : Int32} {x4 : Nat} {x5 : Int32} {x6 : Int32} {h : xH} {Q : Outcome → xH → Prop} (hq : bX5_routine_172 G fr lo x0 x1 x2 x3 x4 x5 x6 h Q) : xP G YX5_routine fr lo 172 [(0, rv x0), (1, rv x1), (2, rv x2), (3, .int x3), (4, rv x4), (5, .int x5), (6, .int x6)] [] h Q := by
  unfold bX5_routine_172 at hq
  obtain ⟨g1, g2, hq⟩ := hq
  obtain ⟨a3, e5⟩ : ∃ y, y = nx h + 1 := ⟨_, rfl⟩
  obtain ⟨h4, e6⟩ : ∃ y, y = nO h 17 16 := ⟨_, rfl⟩
  refine x_new' cdX5_406 dX5_routine_172 g1 g2 e5 e6 (fun f7 => ?_)
  replace hq := hq a3 h4 e5 e6 f7
  have t8 : tg h4 a3 = 17 := by rw [e6, e5]; exact tg_nO
  refine x_dup dX5_routine_175 (rv_cat _) ?_
  refine x_aload_n 1 dX5_routine_176 rfl ?_
  obtain ⟨g9, hq⟩ := hq
  obtain ⟨g10, g11, hq⟩ := hq
  refine x_callV (Yc := YX15_text) (as := []) (st := [rv a3, rv a3]) q2009 mvX15_text g9 rfl dX5_routine_177 (xle (xal1 (rv_cat _) xal0) (by decide)) (xfr g10) (xlo (xsw1 (rv_cat _) (xsw1 (rv_cat _) xsw0)) (by decide) g11) (xKr hq (fun x13 h12 hq e14 => ?_) (fun _ _ q _ => q))
  replace hq := hq e14
  refine x_iload_n 3 dX5_routine_180 rfl ?_
  refine x_aload_n 1 dX5_routine_181 rfl ?_
  have t15 : tg h12 x1 = 16 := e14.tg g9 (by decide)
  obtain ⟨g16, g17, hq⟩ := hq
  refine x_callV (Yc := YX15_place) (as := []) (st := [.int x3, rv x13, rv a3, rv a3]) q2013 mvX15_place t15 rfl dX5_routine_182 (xle (xal1 (rv_cat _) xal0) (by decide)) (xfr g16) (xlo (xsw1 rfl (xsw1 (rv_cat _) (xsw1 (rv_cat _) (xsw1 (rv_cat _) xsw0)))) (by decide) g17) (xKi hq (fun x19 h18 hq e20 => ?_) (fun _ _ q _ => q))
  replace hq := hq e20
  have t21 : tg h12 a3 = 17 := e14.tg t8 (by decide)
  have t22 : tg h18 a3 = 17 := e20.tg t21 (by decide)
  obtain ⟨g23, g24, hq⟩ := hq
  refine x_callI (Yc := YX16_init) (as := [rv x13, .int x3, .int x19]) (st := [rv a3]) q2017 miX16_init (by rw [t22]; decide) rfl dX5_routine_185 (xle (xal1 (rv_cat _) (xal1 (rv_cat _) (xal1 rfl (xal1 rfl xal0)))) (by decide)) (xfr g23) (xlo (xsw1 (rv_cat _) xsw0) (by decide) g24) (xKv hq (fun h25 hq e27 => ?_) (fun _ _ q _ => q))
  replace hq := hq e27
  refine x_astore (lv' := [(8, rv a3), (0, rv x0), (1, rv x1), (2, rv x2), (3, .int x3), (4, rv x4), (5, .int x5), (6, .int x6)]) dX5_routine_188 (by decide) rfl ?_
  refine x_aload 0 dX5_routine_190 rfl ?_
  refine x_aload_n 3 dX5_routine_192 rfl ?_
  obtain ⟨g28, hq⟩ := hq
  refine x_getN (v := .int (fI h25 x2 4102)) gfX5_447 dX5_routine_193 g28 rfl ?_
  refine x_iconst (v := 1) dX5_routine_196 (by decide) ?_
  refine x_iadd dX5_routine_197 ?_
  have t29 : tg h25 a3 = 17 := e27.tg t22 (by decide)
  obtain ⟨h30, e31⟩ : ∃ y, y = sI h25 a3 4102 ((fI h25 x2 4102) + 1) := ⟨_, rfl⟩
  replace hq := hq h30 e31
  refine x_putNI gfX5_447 xty_I1 dX5_routine_198 t29 (Or.inl (by rw [t29]; rfl)) xnI rfl e31 ?_
  refine x_aload 0 dX5_routine_201 rfl ?_
  obtain ⟨g32, g33, hq⟩ := hq
  obtain ⟨a34, e36⟩ : ∃ y, y = nx h30 + 1 := ⟨_, rfl⟩
  obtain ⟨h35, e37⟩ : ∃ y, y = nO h30 8 4 := ⟨_, rfl⟩
  refine x_new' cdX5_116 dX5_routine_203 g32 g33 e36 e37 (fun f38 => ?_)
  replace hq := hq a34 h35 e36 e37 f38
  have t39 : tg h35 a34 = 8 := by rw [e37, e36]; exact tg_nO
  refine x_dup dX5_routine_206 (rv_cat _) ?_
  refine x_aload_n 1 dX5_routine_207 rfl ?_
  obtain ⟨g40, hq⟩ := hq
  refine x_get (v := rv (fR h35 x0 1293)) fdX5_73 dX5_routine_208 g40 rfl ?_
  obtain ⟨g41, g42, hq⟩ := hq
  refine x_callI (Yc := YX7_init) (as := [rv (fR h35 x0 1293)]) (st := [rv a34, rv a3]) q752 miX7_init (by rw [t39]; decide) rfl dX5_routine_211 (xle (xal1 (rv_cat _) (xal1 (rv_cat _) xal0)) (by decide)) (xfr g41) (xlo (xsw1 (rv_cat _) (xsw1 (rv_cat _) xsw0)) (by decide) g42) (xKv hq (fun h43 hq e45 => ?_) (fun _ _ q _ => q))
  replace hq := hq e45
  have t46 : tg h30 a3 = 17 := by rw [e31]; exact t29
  have t47 : tg h35 a3 = 17 := by rw [e37]; exact tg_nO_ne e36 f38 t46 (by decide)
  have t48 : tg h43 a3 = 17 := e45.tg t47 (by decide)
  obtain ⟨h49, e50⟩ : ∃ y, y = sR h43 a3 4101 a34 := ⟨_, rfl⟩
  replace hq := hq h49 e50
  refine x_putNR gfX5_415 xty_O dX5_routine_214 t48 (Or.inl (by rw [t48]; rfl)) rfl e50 ?_
  obtain ⟨g51, g52, hq⟩ := hq
  obtain ⟨a53, e55⟩ : ∃ y, y = nx h49 + 1 := ⟨_, rfl⟩
  obtain ⟨h54, e56⟩ : ∃ y, y = nO h49 9 12 := ⟨_, rfl⟩
  refine x_new' cdX5_103 dX5_routine_217 g51 g52 e55 e56 (fun f57 => ?_)
  replace hq := hq a53 h54 e55 e56 f57
  have t58 : tg h54 a53 = 9 := by rw [e56, e55]; exact tg_nO
  refine x_dup dX5_routine_220 (rv_cat _) ?_
  refine x_iconst (v := 3) dX5_routine_221 (by decide) ?_
  refine x_aload_n 2 dX5_routine_222 rfl ?_
  have t59 : tg h18 x1 = 16 := e20.tg t15 (by decide)
  have t60 : tg h25 x1 = 16 := e27.tg t59 (by decide)
  have t61 : tg h30 x1 = 16 := by rw [e31]; exact t60
  have t62 : tg h35 x1 = 16 := by rw [e37]; exact tg_nO_ne e36 f38 t61 (by decide)
  have t63 : tg h43 x1 = 16 := e45.tg t62 (by decide)
  have t64 : tg h49 x1 = 16 := by rw [e50]; exact t63
  have t65 : tg h54 x1 = 16 := by rw [e56]; exact tg_nO_ne e55 f57 t64 (by decide)
  obtain ⟨g66, g67, hq⟩ := hq
  refine x_callV (Yc := YX15_text) (as := []) (st := [.int 3, rv a53, rv a53]) q2009 mvX15_text t65 rfl dX5_routine_223 (xle (xal1 (rv_cat _) xal0) (by decide)) (xfr g66) (xlo (xsw1 rfl (xsw1 (rv_cat _) (xsw1 (rv_cat _) xsw0))) (by decide) g67) (xKr hq (fun x69 h68 hq e70 => ?_) (fun _ _ q _ => q))
  replace hq := hq e70
  refine x_null dX5_routine_226 ?_
  have t71 : tg h68 a53 = 9 := e70.tg t58 (by decide)
  obtain ⟨g72, g73, hq⟩ := hq
  refine x_callI (Yc := YX8_init) (as := [.int 3, rv x69, rv 0]) (st := [rv a53]) q961 miX8_init (by rw [t71]; decide) rfl dX5_routine_227 (xle (xal1 (rv_cat _) (xal1 rfl (xal1 (rv_cat _) (xal1 (rv_cat _) xal0)))) (by decide)) (xfr g72) (xlo (xsw1 (rv_cat _) xsw0) (by decide) g73) (xKv hq (fun h74 hq e76 => ?_) (fun _ _ q _ => q))
  replace hq := hq e76
  refine x_astore (lv' := [(9, rv a53), (8, rv a3), (0, rv x0), (1, rv x1), (2, rv x2), (3, .int x3), (4, rv x4), (5, .int x5), (6, .int x6)]) dX5_routine_230 (by decide) (by first | rfl | (simp [rv_cat, Value.category]; done) | (simp [rv_cat, Value.category]; decide)) ?_
  refine x_aload 0 dX5_routine_232 rfl ?_
  refine x_aload 1 dX5_routine_234 rfl ?_
  have t77 : tg h74 a53 = 9 := e76.tg t71 (by decide)
  obtain ⟨h78, e79⟩ : ∃ y, y = sR h74 a53 2059 a3 := ⟨_, rfl⟩
  replace hq := hq h78 e79
  refine x_putNR gfX5_492 xty_O dX5_routine_236 t77 (Or.inl (by rw [t77]; rfl)) rfl e79 ?_
  refine x_aload_n 2 dX5_routine_239 rfl ?_
  refine x_aload_n 4 dX5_routine_240 rfl ?_
  have t80 : tg h30 x2 = 17 := by rw [e31]; exact g28
  have t81 : tg h35 x2 = 17 := by rw [e37]; exact tg_nO_ne e36 f38 t80 (by decide)
  have t82 : tg h43 x2 = 17 := e45.tg t81 (by decide)
  have t83 : tg h49 x2 = 17 := by rw [e50]; exact t82
  have t84 : tg h54 x2 = 17 := by rw [e56]; exact tg_nO_ne e55 f57 t83 (by decide)
  have t85 : tg h68 x2 = 17 := e70.tg t84 (by decide)
  have t86 : tg h74 x2 = 17 := e76.tg t85 (by decide)
  have t87 : tg h78 x2 = 17 := by rw [e79]; exact t86
  refine x_getN (v := rv (fR h78 x2 4101)) gfX5_415 dX5_routine_241 t87 rfl ?_
  refine x_aload 0 dX5_routine_244 rfl ?_
  refine x_aload_n 3 dX5_routine_246 rfl ?_
  have t88 : tg h68 x1 = 16 := e70.tg t65 (by decide)
  have t89 : tg h74 x1 = 16 := e76.tg t88 (by decide)
  have t90 : tg h78 x1 = 16 := by rw [e79]; exact t89
  obtain ⟨g91, g92, hq⟩ := hq
  refine x_callV (Yc := YX15_place) (as := []) (st := [rv a53, rv (fR h78 x2 4101), rv x0]) q2013 mvX15_place t90 rfl dX5_routine_247 (xle (xal1 (rv_cat _) xal0) (by decide)) (xfr g91) (xlo (xsw1 (rv_cat _) (xsw1 (rv_cat _) (xsw1 (rv_cat _) xsw0))) (by decide) g92) (xKi hq (fun x94 h93 hq e95 => ?_) (fun _ _ q _ => q))
  replace hq := hq e95
  have t96 : tg h43 x0 = 6 := e45.tg g40 (by decide)
  have t97 : tg h49 x0 = 6 := by rw [e50]; exact t96
  have t98 : tg h54 x0 = 6 := by rw [e56]; exact tg_nO_ne e55 f57 t97 (by decide)
  have t99 : tg h68 x0 = 6 := e70.tg t98 (by decide)
  have t100 : tg h74 x0 = 6 := e76.tg t99 (by decide)
  have t101 : tg h78 x0 = 6 := by rw [e79]; exact t100
  have t102 : tg h93 x0 = 6 := e95.tg t101 (by decide)
  obtain ⟨g103, g104, hq⟩ := hq
  refine x_callV (Yc := YX5_define) (as := [rv (fR h78 x2 4101), rv a53, .int x94]) (st := []) q2103 mvX5_define t102 rfl dX5_routine_250 (xle (xal1 (rv_cat _) (xal1 (rv_cat _) (xal1 (rv_cat _) (xal1 rfl xal0)))) (by decide)) (xfr g103) (xlo xsw0 (by decide) g104) (xKv hq (fun h105 hq e107 => ?_) (fun _ _ q _ => q))
  replace hq := hq e107
  refine x_aload 1 dX5_routine_253 rfl ?_
  refine x_aload_n 2 dX5_routine_255 rfl ?_
  have t108 : tg h105 x0 = 6 := e107.tg t102 (by decide)
  refine x_get (v := rv (fR h105 x0 1281)) fdX5_62 dX5_routine_256 t108 rfl ?_
  obtain ⟨g109, hq⟩ := hq
  refine x_getN (v := rv (fR h105 (fR h105 x0 1281) 522)) gfX5_528 dX5_routine_259 g109 rfl ?_
  obtain ⟨g110, hq⟩ := hq
  obtain ⟨g111, g112, hq⟩ := hq
  refine x_callV (Yc := YJ2_size) (as := []) (st := [rv a3]) q2271 mvJ2_size g110 rfl dX5_routine_262 (xle (xal1 (rv_cat _) xal0) (by decide)) (xfr g111) (xlo (xsw1 (rv_cat _) xsw0) (by decide) g112) (xKi hq (fun x114 h113 hq e115 => ?_) (fun _ _ q _ => q))
  replace hq := hq e115
  have t116 : tg h49 a3 = 17 := by rw [e50]; exact t48
  have t117 : tg h54 a3 = 17 := by rw [e56]; exact tg_nO_ne e55 f57 t116 (by decide)
  have t118 : tg h68 a3 = 17 := e70.tg t117 (by decide)
  have t119 : tg h74 a3 = 17 := e76.tg t118 (by decide)
  have t120 : tg h78 a3 = 17 := by rw [e79]; exact t119
  have t121 : tg h93 a3 = 17 := e95.tg t120 (by decide)
  have t122 : tg h105 a3 = 17 := e107.tg t121 (by decide)
  have t123 : tg h113 a3 = 17 := e115.tg t122 (by decide)
  obtain ⟨h124, e125⟩ : ∃ y, y = sI h113 a3 4105 x114 := ⟨_, rfl⟩
  replace hq := hq h124 e125
  refine x_putNI gfX5_531 xty_I1 dX5_routine_265 t123 (Or.inl (by rw [t123]; rfl)) xnI rfl e125 ?_
  refine x_aload_n 2 dX5_routine_268 rfl ?_
  have t126 : tg h113 x0 = 6 := e115.tg t108 (by decide)
  have t127 : tg h124 x0 = 6 := by rw [e125]; exact t126
  refine x_get (v := rv (fR h124 x0 1281)) fdX5_62 dX5_routine_269 t127 rfl ?_
  obtain ⟨g128, hq⟩ := hq
  refine x_getN (v := rv (fR h124 (fR h124 x0 1281) 522)) gfX5_528 dX5_routine_272 g128 rfl ?_
  refine x_aload 1 dX5_routine_275 rfl ?_
  obtain ⟨g129, hq⟩ := hq
  obtain ⟨g130, g131, hq⟩ := hq
  refine x_callV (Yc := YJ2_add) (as := [rv a3]) (st := []) q1009 mvJ2_add g129 rfl dX5_routine_277 (xle (xal1 (rv_cat _) (xal1 (rv_cat _) xal0)) (by decide)) (xfr g130) (xlo xsw0 (by decide) g131) (xKi hq (fun x133 h132 hq e134 => ?_) (fun _ _ q _ => q))
  replace hq := hq e134
  refine x_pop dX5_routine_280 rfl ?_
  refine x_aload 1 dX5_routine_281 rfl ?_
  refine x_iload_n 5 dX5_routine_283 rfl ?_
  refine x_if_eq (tgt := 291) dX5_routine_284 (by decide) (fun c135 => ?_) (fun c135 => ?_)
  · replace hq := hq.1 c135
    refine x_iconst (v := 0) dX5_routine_291 (by decide) ?_
    refine xP.pick (lv' := [(0, rv x0), (1, rv x1), (3, .int x3), (4, rv x4), (5, .int x5), (6, .int x6), (8, rv a3)]) [2, 3, 5, 6, 7, 8, 1] rfl ?_
    exact uX5_routine_292 hq
  · replace hq := hq.2 c135
    refine x_iconst (v := 1) dX5_routine_287 (by decide) ?_
    refine x_goto (tgt := 292) dX5_routine_288 (by decide) ?_
    refine xP.pick (lv' := [(0, rv x0), (1, rv x1), (3, .int x3), (4, rv x4), (5, .int x5), (6, .int x6), (8, rv a3)]) [2, 3, 5, 6, 7, 8, 1] rfl ?_
    exact uX5_routine_292 hq
set_option maxRecDepth 100000 in
def bX5_routine_161 (G : xG) (fr lo : Nat) (x0 : Nat) (x1 : Nat) (h : xH) (Q : Outcome → xH → Prop) : Prop := tg h x1 = 16 ∧ 1 ≤ fr ∧ 14 ≤ lo ∧ xRi G YX15_place (fr - 1) (lo - 14) [rv x1] h (fun x5 h4 => xext h h4 → tg h4 x0 = 6 ∧ 1 ≤ fr ∧ 14 ≤ lo ∧ xRr G YX5_fault (fr - 1) (lo - 14) [rv x0, .int 9, .int x5] h4 (fun x11 h10 => xext h4 h10 → (∃ r13, x11 = r13 + 1 ∧ Q (.threw r13) h10)) (fun r h2 => Q (.threw r) h2)) (fun r h2 => Q (.threw r) h2)
set_option maxRecDepth 100000 in
theorem uX5_routine_161 {G : xG} {fr lo : Nat} {x0 : Nat} {x1 : Nat} {h : xH} {Q : Outcome → xH → Prop} (hq : bX5_routine_161 G fr lo x0 x1 h Q) : xP G YX5_routine fr lo 161 [(0, rv x0), (1, rv x1)] [] h Q := by
  unfold bX5_routine_161 at hq
  refine x_aload_n 0 dX5_routine_161 rfl ?_
  refine x_bipush (v := 9) dX5_routine_162 (by decide) ?_
  refine x_aload_n 1 dX5_routine_164 rfl ?_
  obtain ⟨g1, hq⟩ := hq
  obtain ⟨g2, g3, hq⟩ := hq
  refine x_callV (Yc := YX15_place) (as := []) (st := [.int 9, rv x0]) q2013 mvX15_place g1 rfl dX5_routine_165 (xle (xal1 (rv_cat _) xal0) (by decide)) (xfr g2) (xlo (xsw1 rfl (xsw1 (rv_cat _) xsw0)) (by decide) g3) (xKi hq (fun x5 h4 hq e6 => ?_) (fun _ _ q _ => q))
  replace hq := hq e6
  obtain ⟨g7, hq⟩ := hq
  obtain ⟨g8, g9, hq⟩ := hq
  refine x_callV (Yc := YX5_fault) (as := [.int 9, .int x5]) (st := []) q2087 mvX5_fault g7 rfl dX5_routine_168 (xle (xal1 (rv_cat _) (xal1 rfl (xal1 rfl xal0))) (by decide)) (xfr g8) (xlo xsw0 (by decide) g9) (xKr hq (fun x11 h10 hq e12 => ?_) (fun _ _ q _ => q))
  replace hq := hq e12
  obtain ⟨r13, g14, hq⟩ := hq
  rw [g14]
  exact x_athrow dX5_routine_171 hq
set_option maxRecDepth 100000 in
def bX5_routine_51 (G : xG) (fr lo : Nat) (x0 : Nat) (x1 : Nat) (x2 : Nat) (x3 : Int32) (x4 : Nat) (x5 : Int32) (s0 : Int32) (h : xH) (Q : Outcome → xH → Prop) : Prop := tg h x2 = 17 ∧ tg h x1 = 16 ∧ 1 ≤ fr ∧ 13 ≤ lo ∧ xRr G YX15_text (fr - 1) (lo - 13) [rv x1] h (fun x6 h5 => xext h h5 → tg h5 (fR h x2 4101) = 8 ∧ 1 ≤ fr ∧ 14 ≤ lo ∧ xRr G YX7_own (fr - 1) (lo - 14) [rv (fR h x2 4101), rv x6] h5 (fun x12 h11 => xext h5 h11 → ((x12 = 0 → bX5_routine_172 G fr lo x0 x1 x2 x3 x4 x5 s0 h11 Q) ∧ (¬ x12 = 0 → tg h11 x12 = 9 ∧ ((¬ (fI h11 x12 2048) = 3 → bX5_routine_172 G fr lo x0 x1 x2 x3 x4 x5 s0 h11 Q) ∧ ((fI h11 x12 2048) = 3 → tg h11 (fR h11 x12 2059) = 17 ∧ (((fI h11 (fR h11 x12 2059) 4109) = 0 → bX5_routine_172 G fr lo x0 x1 x2 x3 x4 x5 s0 h11 Q) ∧ (¬ (fI h11 (fR h11 x12 2059) 4109) = 0 → ((¬ (fI h11 (fR h11 x12 2059) 4103) = (-1) → bX5_routine_172 G fr lo x0 x1 x2 x3 x4 x5 s0 h11 Q) ∧ ((fI h11 (fR h11 x12 2059) 4103) = (-1) → ((¬ (fI h11 (fR h11 x12 2059) 4108) = 0 → bX5_routine_172 G fr lo x0 x1 x2 x3 x4 x5 s0 h11 Q) ∧ ((fI h11 (fR h11 x12 2059) 4108) = 0 → (((fI h11 (fR h11 x12 2059) 4097) = x3 → ((¬ s0 = 0 → bX5_routine_161 G fr lo x0 x1 h11 Q) ∧ (s0 = 0 → ((¬ x5 = 0 → bX5_routine_161 G fr lo x0 x1 h11 Q) ∧ (x5 = 0 → tg h11 (fR h11 x1 3842) = 16 ∧ (((fR h11 (fR h11 x1 3842) 3842) = 0 → bX5_routine_364 G fr lo x0 x1 x3 x4 s0 (fR h11 x12 2059) h11 Q) ∧ (¬ (fR h11 (fR h11 x1 3842) 3842) = 0 → bX5_routine_161 G fr lo x0 x1 h11 Q))))))) ∧ (¬ (fI h11 (fR h11 x12 2059) 4097) = x3 → 1 ≤ fr ∧ 14 ≤ lo ∧ xRi G YX15_place (fr - 1) (lo - 14) [rv x1] h11 (fun x33 h32 => xext h11 h32 → tg h32 x0 = 6 ∧ 1 ≤ fr ∧ 14 ≤ lo ∧ xRr G YX5_fault (fr - 1) (lo - 14) [rv x0, .int 6, .int x33] h32 (fun x39 h38 => xext h32 h38 → (∃ r41, x39 = r41 + 1 ∧ Q (.threw r41) h38)) (fun r h2 => Q (.threw r) h2)) (fun r h2 => Q (.threw r) h2)))))))))))))) (fun r h2 => Q (.threw r) h2)) (fun r h2 => Q (.threw r) h2)
set_option maxRecDepth 100000 in
theorem uX5_routine_51 {G : xG} {fr lo : Nat} {x0 : Nat} {x1 : Nat} {x2 : Nat} {x3 : Int32} {x4 : Nat} {x5 : Int32} {s0 : Int32} {h : xH} {Q : Outcome → xH → Prop} (hq : bX5_routine_51 G fr lo x0 x1 x2 x3 x4 x5 s0 h Q) : xP G YX5_routine fr lo 51 [(0, rv x0), (1, rv x1), (2, rv x2), (3, .int x3), (4, rv x4), (5, .int x5)] [.int s0] h Q := by
  unfold bX5_routine_51 at hq
  refine x_istore (lv' := [(6, .int s0), (0, rv x0), (1, rv x1), (2, rv x2), (3, .int x3), (4, rv x4), (5, .int x5)]) dX5_routine_51 (by decide) rfl ?_
  refine x_aload_n 3 dX5_routine_53 rfl ?_
  obtain ⟨g1, hq⟩ := hq
  refine x_getN (v := rv (fR h x2 4101)) gfX5_415 dX5_routine_54 g1 rfl ?_
  refine x_aload_n 2 dX5_routine_57 rfl ?_
  obtain ⟨g2, hq⟩ := hq
  obtain ⟨g3, g4, hq⟩ := hq
  refine x_callV (Yc := YX15_text) (as := []) (st := [rv (fR h x2 4101)]) q2009 mvX15_text g2 rfl dX5_routine_58 (xle (xal1 (rv_cat _) xal0) (by decide)) (xfr g3) (xlo (xsw1 (rv_cat _) xsw0) (by decide) g4) (xKr hq (fun x6 h5 hq e7 => ?_) (fun _ _ q _ => q))
  replace hq := hq e7
  obtain ⟨g8, hq⟩ := hq
  obtain ⟨g9, g10, hq⟩ := hq
  refine x_callV (Yc := YX7_own) (as := [rv x6]) (st := []) q2107 mvX7_own g8 rfl dX5_routine_61 (xle (xal1 (rv_cat _) (xal1 (rv_cat _) xal0)) (by decide)) (xfr g9) (xlo xsw0 (by decide) g10) (xKr hq (fun x12 h11 hq e13 => ?_) (fun _ _ q _ => q))
  replace hq := hq e13
  refine x_astore (lv' := [(7, rv x12), (6, .int s0), (0, rv x0), (1, rv x1), (2, rv x2), (3, .int x3), (4, rv x4), (5, .int x5)]) dX5_routine_64 (by decide) rfl ?_
  refine x_aload 0 dX5_routine_66 rfl ?_
  refine x_ifnull (tgt := 172) dX5_routine_68 (by decide) (fun c14 => ?_) (fun c14 => ?_)
  · replace hq := hq.1 c14
    refine xP.pick (lv' := [(0, rv x0), (1, rv x1), (2, rv x2), (3, .int x3), (4, rv x4), (5, .int x5), (6, .int s0)]) [2, 3, 4, 5, 6, 7, 1] rfl ?_
    exact uX5_routine_172 hq
  · replace hq := hq.2 c14
    refine x_aload 0 dX5_routine_71 rfl ?_
    obtain ⟨g15, hq⟩ := hq
    refine x_getN (v := .int (fI h11 x12 2048)) gfX5_199 dX5_routine_73 g15 rfl ?_
    refine x_iconst (v := 3) dX5_routine_76 (by decide) ?_
    refine x_icmp_ne (tgt := 172) dX5_routine_77 (by decide) (fun c16 => ?_) (fun c16 => ?_)
    · replace hq := hq.1 c16
      refine xP.pick (lv' := [(0, rv x0), (1, rv x1), (2, rv x2), (3, .int x3), (4, rv x4), (5, .int x5), (6, .int s0)]) [2, 3, 4, 5, 6, 7, 1] rfl ?_
      exact uX5_routine_172 hq
    · replace hq := hq.2 c16
      refine x_aload 0 dX5_routine_80 rfl ?_
      refine x_getN (v := rv (fR h11 x12 2059)) gfX5_492 dX5_routine_82 g15 rfl ?_
      obtain ⟨g17, hq⟩ := hq
      refine x_getN (v := .int (fI h11 (fR h11 x12 2059) 4109)) gfX5_493 dX5_routine_85 g17 rfl ?_
      refine x_if_eq (tgt := 172) dX5_routine_88 (by decide) (fun c18 => ?_) (fun c18 => ?_)
      · replace hq := hq.1 c18
        refine xP.pick (lv' := [(0, rv x0), (1, rv x1), (2, rv x2), (3, .int x3), (4, rv x4), (5, .int x5), (6, .int s0)]) [2, 3, 4, 5, 6, 7, 1] rfl ?_
        exact uX5_routine_172 hq
      · replace hq := hq.2 c18
        refine x_aload 0 dX5_routine_91 rfl ?_
        refine x_getN (v := rv (fR h11 x12 2059)) gfX5_492 dX5_routine_93 g15 rfl ?_
        refine x_getN (v := .int (fI h11 (fR h11 x12 2059) 4103)) gfX5_496 dX5_routine_96 g17 rfl ?_
        refine x_iconst (v := (-1)) dX5_routine_99 (by decide) ?_
        refine x_icmp_ne (tgt := 172) dX5_routine_100 (by decide) (fun c19 => ?_) (fun c19 => ?_)
        · replace hq := hq.1 c19
          refine xP.pick (lv' := [(0, rv x0), (1, rv x1), (2, rv x2), (3, .int x3), (4, rv x4), (5, .int x5), (6, .int s0)]) [2, 3, 4, 5, 6, 7, 1] rfl ?_
          exact uX5_routine_172 hq
        · replace hq := hq.2 c19
          refine x_aload 0 dX5_routine_103 rfl ?_
          refine x_getN (v := rv (fR h11 x12 2059)) gfX5_492 dX5_routine_105 g15 rfl ?_
          refine x_getN (v := .int (fI h11 (fR h11 x12 2059) 4108)) gfX5_522 dX5_routine_108 g17 rfl ?_
          refine x_if_ne (tgt := 172) dX5_routine_111 (by decide) (fun c20 => ?_) (fun c20 => ?_)
          · replace hq := hq.1 c20
            refine xP.pick (lv' := [(0, rv x0), (1, rv x1), (2, rv x2), (3, .int x3), (4, rv x4), (5, .int x5), (6, .int s0)]) [2, 3, 4, 5, 6, 7, 1] rfl ?_
            exact uX5_routine_172 hq
          · replace hq := hq.2 c20
            refine x_aload 0 dX5_routine_114 rfl ?_
            refine x_getN (v := rv (fR h11 x12 2059)) gfX5_492 dX5_routine_116 g15 rfl ?_
            refine x_astore (lv' := [(8, rv (fR h11 x12 2059)), (7, rv x12), (6, .int s0), (0, rv x0), (1, rv x1), (2, rv x2), (3, .int x3), (4, rv x4), (5, .int x5)]) dX5_routine_119 (by decide) (by first | rfl | (simp [rv_cat, Value.category]; done) | (simp [rv_cat, Value.category]; decide)) ?_
            refine x_aload 0 dX5_routine_121 rfl ?_
            refine x_getN (v := .int (fI h11 (fR h11 x12 2059) 4097)) gfX5_525 dX5_routine_123 g17 rfl ?_
            refine x_iload_n 6 dX5_routine_126 rfl ?_
            refine x_icmp_eq (tgt := 141) dX5_routine_127 (by decide) (fun c21 => ?_) (fun c21 => ?_)
            · replace hq := hq.1 c21
              refine x_iload 2 dX5_routine_141 rfl ?_
              refine x_if_ne (tgt := 161) dX5_routine_143 (by decide) (fun c22 => ?_) (fun c22 => ?_)
              · replace hq := hq.1 c22
                refine xP.pick (lv' := [(0, rv x0), (1, rv x1)]) [3, 4] rfl ?_
                exact uX5_routine_161 hq
              · replace hq := hq.2 c22
                refine x_iload 8 dX5_routine_146 rfl ?_
                refine x_if_ne (tgt := 161) dX5_routine_148 (by decide) (fun c23 => ?_) (fun c23 => ?_)
                · replace hq := hq.1 c23
                  refine xP.pick (lv' := [(0, rv x0), (1, rv x1)]) [3, 4] rfl ?_
                  exact uX5_routine_161 hq
                · replace hq := hq.2 c23
                  refine x_aload_n 4 dX5_routine_151 rfl ?_
                  have t24 : tg h5 x1 = 16 := e7.tg g2 (by decide)
                  have t25 : tg h11 x1 = 16 := e13.tg t24 (by decide)
                  refine x_getN (v := rv (fR h11 x1 3842)) gfX5_251 dX5_routine_152 t25 rfl ?_
                  obtain ⟨g26, hq⟩ := hq
                  refine x_getN (v := rv (fR h11 (fR h11 x1 3842) 3842)) gfX5_251 dX5_routine_155 g26 rfl ?_
                  refine x_ifnull (tgt := 364) dX5_routine_158 (by decide) (fun c27 => ?_) (fun c27 => ?_)
                  · replace hq := hq.1 c27
                    refine xP.pick (lv' := [(0, rv x0), (1, rv x1), (3, .int x3), (4, rv x4), (6, .int s0), (8, rv (fR h11 x12 2059))]) [3, 4, 6, 7, 2, 0] rfl ?_
                    exact uX5_routine_364 hq
                  · replace hq := hq.2 c27
                    refine xP.pick (lv' := [(0, rv x0), (1, rv x1)]) [3, 4] rfl ?_
                    exact uX5_routine_161 hq
            · replace hq := hq.2 c21
              refine x_aload_n 3 dX5_routine_130 rfl ?_
              refine x_bipush (v := 6) dX5_routine_131 (by decide) ?_
              refine x_aload_n 4 dX5_routine_133 rfl ?_
              have t28 : tg h5 x1 = 16 := e7.tg g2 (by decide)
              have t29 : tg h11 x1 = 16 := e13.tg t28 (by decide)
              obtain ⟨g30, g31, hq⟩ := hq
              refine x_callV (Yc := YX15_place) (as := []) (st := [.int 6, rv x0]) q2013 mvX15_place t29 rfl dX5_routine_134 (xle (xal1 (rv_cat _) xal0) (by decide)) (xfr g30) (xlo (xsw1 rfl (xsw1 (rv_cat _) xsw0)) (by decide) g31) (xKi hq (fun x33 h32 hq e34 => ?_) (fun _ _ q _ => q))
              replace hq := hq e34
              obtain ⟨g35, hq⟩ := hq
              obtain ⟨g36, g37, hq⟩ := hq
              refine x_callV (Yc := YX5_fault) (as := [.int 6, .int x33]) (st := []) q2087 mvX5_fault g35 rfl dX5_routine_137 (xle (xal1 (rv_cat _) (xal1 rfl (xal1 rfl xal0))) (by decide)) (xfr g36) (xlo xsw0 (by decide) g37) (xKr hq (fun x39 h38 hq e40 => ?_) (fun _ _ q _ => q))
              replace hq := hq e40
              obtain ⟨r41, g42, hq⟩ := hq
              rw [g42]
              exact x_athrow dX5_routine_140 hq
set_option maxRecDepth 100000 in
def bX5_routine_34 (G : xG) (fr lo : Nat) (x0 : Nat) (x1 : Nat) (x2 : Nat) (x3 : Int32) (x4 : Nat) (s0 : Int32) (h : xH) (Q : Outcome → xH → Prop) : Prop := tg h x4 = 16 ∧ ((¬ (fI h x4 3840) = 22 → bX5_routine_51 G fr lo x0 x1 x2 x3 x4 s0 0 h Q) ∧ ((fI h x4 3840) = 22 → bX5_routine_51 G fr lo x0 x1 x2 x3 x4 s0 1 h Q))
set_option maxRecDepth 100000 in
theorem uX5_routine_34 {G : xG} {fr lo : Nat} {x0 : Nat} {x1 : Nat} {x2 : Nat} {x3 : Int32} {x4 : Nat} {s0 : Int32} {h : xH} {Q : Outcome → xH → Prop} (hq : bX5_routine_34 G fr lo x0 x1 x2 x3 x4 s0 h Q) : xP G YX5_routine fr lo 34 [(0, rv x0), (1, rv x1), (2, rv x2), (3, .int x3), (4, rv x4)] [.int s0] h Q := by
  unfold bX5_routine_34 at hq
  refine x_istore (lv' := [(5, .int s0), (0, rv x0), (1, rv x1), (2, rv x2), (3, .int x3), (4, rv x4)]) dX5_routine_34 (by decide) (by first | rfl | (simp [rv_cat, Value.category]; done) | (simp [rv_cat, Value.category]; decide)) ?_
  refine x_aload 5 dX5_routine_36 rfl ?_
  obtain ⟨g1, hq⟩ := hq
  refine x_getN (v := .int (fI h x4 3840)) gfX5_264 dX5_routine_38 g1 rfl ?_
  refine x_bipush (v := 22) dX5_routine_41 (by decide) ?_
  refine x_icmp_ne (tgt := 50) dX5_routine_43 (by decide) (fun c2 => ?_) (fun c2 => ?_)
  · replace hq := hq.1 c2
    refine x_iconst (v := 0) dX5_routine_50 (by decide) ?_
    refine xP.pick (lv' := [(0, rv x0), (1, rv x1), (2, rv x2), (3, .int x3), (4, rv x4), (5, .int s0)]) [1, 2, 3, 4, 5, 0] rfl ?_
    exact uX5_routine_51 hq
  · replace hq := hq.2 c2
    refine x_iconst (v := 1) dX5_routine_46 (by decide) ?_
    refine x_goto (tgt := 51) dX5_routine_47 (by decide) ?_
    refine xP.pick (lv' := [(0, rv x0), (1, rv x1), (2, rv x2), (3, .int x3), (4, rv x4), (5, .int s0)]) [1, 2, 3, 4, 5, 0] rfl ?_
    exact uX5_routine_51 hq
set_option maxRecDepth 100000 in
def bX5_routine_14 (G : xG) (fr lo : Nat) (x0 : Nat) (x1 : Nat) (x2 : Nat) (s0 : Int32) (h : xH) (Q : Outcome → xH → Prop) : Prop := tg h x1 = 16 ∧ ((¬ (fI h x1 3845) = 3 → bX5_routine_34 G fr lo x0 x1 x2 s0 (fR h x1 3843) 0 h Q) ∧ ((fI h x1 3845) = 3 → bX5_routine_34 G fr lo x0 x1 x2 s0 (fR h x1 3843) 1 h Q))
set_option maxRecDepth 100000 in
theorem uX5_routine_14 {G : xG} {fr lo : Nat} {x0 : Nat} {x1 : Nat} {x2 : Nat} {s0 : Int32} {h : xH} {Q : Outcome → xH → Prop} (hq : bX5_routine_14 G fr lo x0 x1 x2 s0 h Q) : xP G YX5_routine fr lo 14 [(0, rv x0), (1, rv x1), (2, rv x2)] [.int s0] h Q := by
  unfold bX5_routine_14 at hq
  refine x_istore_n (lv' := [(3, .int s0), (0, rv x0), (1, rv x1), (2, rv x2)]) dX5_routine_14 (by decide) (by first | rfl | (simp [rv_cat, Value.category]; done) | (simp [rv_cat, Value.category]; decide)) ?_
  refine x_aload_n 2 dX5_routine_15 rfl ?_
  obtain ⟨g1, hq⟩ := hq
  refine x_getN (v := rv (fR h x1 3843)) gfX5_519 dX5_routine_16 g1 rfl ?_
  refine x_astore (lv' := [(4, rv (fR h x1 3843)), (3, .int s0), (0, rv x0), (1, rv x1), (2, rv x2)]) dX5_routine_19 (by decide) rfl ?_
  refine x_aload_n 3 dX5_routine_21 rfl ?_
  refine x_getN (v := .int (fI h x1 3845)) gfX5_293 dX5_routine_22 g1 rfl ?_
  refine x_iconst (v := 3) dX5_routine_25 (by decide) ?_
  refine x_icmp_ne (tgt := 33) dX5_routine_26 (by decide) (fun c2 => ?_) (fun c2 => ?_)
  · replace hq := hq.1 c2
    refine x_iconst (v := 0) dX5_routine_33 (by decide) ?_
    refine xP.pick (lv' := [(0, rv x0), (1, rv x1), (2, rv x2), (3, .int s0), (4, rv (fR h x1 3843))]) [2, 3, 4, 1, 0] rfl ?_
    exact uX5_routine_34 hq
  · replace hq := hq.2 c2
    refine x_iconst (v := 1) dX5_routine_29 (by decide) ?_
    refine x_goto (tgt := 34) dX5_routine_30 (by decide) ?_
    refine xP.pick (lv' := [(0, rv x0), (1, rv x1), (2, rv x2), (3, .int s0), (4, rv (fR h x1 3843))]) [2, 3, 4, 1, 0] rfl ?_
    exact uX5_routine_34 hq
set_option maxRecDepth 100000 in
def bX5_routine (G : xG) (fr lo : Nat) (x0 : Nat) (x1 : Nat) (x2 : Nat) (h : xH) (Q : Outcome → xH → Prop) : Prop := tg h x1 = 16 ∧ ((¬ (fI h x1 3840) = 21 → bX5_routine_14 G fr lo x0 x1 x2 0 h Q) ∧ ((fI h x1 3840) = 21 → bX5_routine_14 G fr lo x0 x1 x2 1 h Q))
set_option maxRecDepth 100000 in
theorem uX5_routine {G : xG} {fr lo : Nat} {x0 : Nat} {x1 : Nat} {x2 : Nat} {h : xH} {Q : Outcome → xH → Prop} (hq : bX5_routine G fr lo x0 x1 x2 h Q) : xP G YX5_routine fr lo 0 [(0, rv x0), (1, rv x1), (2, rv x2)] [] h Q := by
  unfold bX5_routine at hq
  refine x_aload_n 1 dX5_routine_0 rfl ?_
  obtain ⟨g1, hq⟩ := hq
  refine x_getN (v := .int (fI h x1 3840)) gfX5_264 dX5_routine_1 g1 rfl ?_
  refine x_bipush (v := 21) dX5_routine_4 (by decide) ?_
  refine x_icmp_ne (tgt := 13) dX5_routine_6 (by decide) (fun c2 => ?_) (fun c2 => ?_)
  · replace hq := hq.1 c2
    refine x_iconst (v := 0) dX5_routine_13 (by decide) ?_
    exact uX5_routine_14 hq
  · replace hq := hq.2 c2
    refine x_iconst (v := 1) dX5_routine_9 (by decide) ?_
    refine x_goto (tgt := 14) dX5_routine_10 (by decide) ?_
    exact uX5_routine_14 hq
theorem rX5_routine {G : xG} {fr lo : Nat} {x0 : Nat} {x1 : Nat} {x2 : Nat} {h : xH} {Q : Outcome → xH → Prop} (hq : bX5_routine G fr lo x0 x1 x2 h Q) : xR G YX5_routine fr lo [rv x0, rv x1, rv x2] h Q := by
  show xP _ _ _ _ _ (lv_args 0 _) _ _ _
  rw [show lv_args 0 [rv x0, rv x1, rv x2] = [(0, rv x0), (1, rv x1), (2, rv x2)] from (xla1 (rv_cat _) (xla1 (rv_cat _) (xla1 (rv_cat _) xla0)))]
  exact uX5_routine hq
set_option maxRecDepth 100000 in
theorem dX5_parameters_0 : decode cX5_parameters 0 = .ok (.aload_n 1, 1) := by decide +kernel
set_option maxRecDepth 100000 in
theorem dX5_parameters_1 : decode cX5_parameters 1 = .ok (.getfield 251, 3) := by decide +kernel
set_option maxRecDepth 100000 in
theorem dX5_parameters_4 : decode cX5_parameters 4 = .ok (.astore_n 3, 1) := by decide +kernel
set_option maxRecDepth 100000 in
theorem dX5_parameters_5 : decode cX5_parameters 5 = .ok (.aload_n 3, 1) := by decide +kernel
set_option maxRecDepth 100000 in
theorem dX5_parameters_6 : decode cX5_parameters 6 = .ok (.ifnull 197, 3) := by decide +kernel
set_option maxRecDepth 100000 in
theorem dX5_parameters_9 : decode cX5_parameters 9 = .ok (.aload_n 3, 1) := by decide +kernel
set_option maxRecDepth 100000 in
theorem dX5_parameters_10 : decode cX5_parameters 10 = .ok (.getfield 264, 3) := by decide +kernel
set_option maxRecDepth 100000 in
theorem dX5_parameters_13 : decode cX5_parameters 13 = .ok (.bipush 20, 2) := by decide +kernel
set_option maxRecDepth 100000 in
theorem dX5_parameters_15 : decode cX5_parameters 15 = .ok (.if_icmp .eq 12, 3) := by decide +kernel
set_option maxRecDepth 100000 in
theorem dX5_parameters_18 : decode cX5_parameters 18 = .ok (.aload_n 3, 1) := by decide +kernel
set_option maxRecDepth 100000 in
theorem dX5_parameters_19 : decode cX5_parameters 19 = .ok (.getfield 264, 3) := by decide +kernel
set_option maxRecDepth 100000 in
theorem dX5_parameters_22 : decode cX5_parameters 22 = .ok (.bipush 21, 2) := by decide +kernel
set_option maxRecDepth 100000 in
theorem dX5_parameters_24 : decode cX5_parameters 24 = .ok (.if_icmp .ne 12, 3) := by decide +kernel
set_option maxRecDepth 100000 in
theorem dX5_parameters_27 : decode cX5_parameters 27 = .ok (.aload_n 0, 1) := by decide +kernel
set_option maxRecDepth 100000 in
theorem dX5_parameters_28 : decode cX5_parameters 28 = .ok (.aload_n 3, 1) := by decide +kernel
set_option maxRecDepth 100000 in
theorem dX5_parameters_29 : decode cX5_parameters 29 = .ok (.aload_n 2, 1) := by decide +kernel
set_option maxRecDepth 100000 in
theorem dX5_parameters_30 : decode cX5_parameters 30 = .ok (.invokevirtual 546, 3) := by decide +kernel
set_option maxRecDepth 100000 in
theorem dX5_parameters_33 : decode cX5_parameters 33 = .ok (.goto 162, 3) := by decide +kernel
set_option maxRecDepth 100000 in
theorem dX5_parameters_36 : decode cX5_parameters 36 = .ok (.aload_n 0, 1) := by decide +kernel
set_option maxRecDepth 100000 in
theorem dX5_parameters_37 : decode cX5_parameters 37 = .ok (.aload_n 3, 1) := by decide +kernel
set_option maxRecDepth 100000 in
theorem dX5_parameters_38 : decode cX5_parameters 38 = .ok (.iconst 1, 1) := by decide +kernel
set_option maxRecDepth 100000 in
theorem dX5_parameters_39 : decode cX5_parameters 39 = .ok (.invokevirtual 310, 3) := by decide +kernel
set_option maxRecDepth 100000 in
theorem dX5_parameters_42 : decode cX5_parameters 42 = .ok (.invokevirtual 265, 3) := by decide +kernel
set_option maxRecDepth 100000 in
theorem dX5_parameters_45 : decode cX5_parameters 45 = .ok (.astore 4, 2) := by decide +kernel
set_option maxRecDepth 100000 in
theorem dX5_parameters_47 : decode cX5_parameters 47 = .ok (.aload_n 3, 1) := by decide +kernel
set_option maxRecDepth 100000 in
theorem dX5_parameters_48 : decode cX5_parameters 48 = .ok (.getfield 264, 3) := by decide +kernel
set_option maxRecDepth 100000 in
theorem dX5_parameters_51 : decode cX5_parameters 51 = .ok (.bipush 24, 2) := by decide +kernel
set_option maxRecDepth 100000 in
theorem dX5_parameters_53 : decode cX5_parameters 53 = .ok (.if_icmp .ne 28, 3) := by decide +kernel
set_option maxRecDepth 100000 in
theorem dX5_parameters_56 : decode cX5_parameters 56 = .ok (.aload 4, 2) := by decide +kernel
set_option maxRecDepth 100000 in
theorem dX5_parameters_58 : decode cX5_parameters 58 = .ok (.getfield 289, 3) := by decide +kernel
set_option maxRecDepth 100000 in
theorem dX5_parameters_61 : decode cX5_parameters 61 = .ok (.bipush 10, 2) := by decide +kernel
set_option maxRecDepth 100000 in
theorem dX5_parameters_63 : decode cX5_parameters 63 = .ok (.if_icmp .ne 18, 3) := by decide +kernel
set_option maxRecDepth 100000 in
theorem dX5_parameters_66 : decode cX5_parameters 66 = .ok (.aload_n 0, 1) := by decide +kernel
set_option maxRecDepth 100000 in
theorem dX5_parameters_67 : decode cX5_parameters 67 = .ok (.bipush 7, 2) := by decide +kernel
set_option maxRecDepth 100000 in
theorem dX5_parameters_69 : decode cX5_parameters 69 = .ok (.aload_n 3, 1) := by decide +kernel
set_option maxRecDepth 100000 in
theorem dX5_parameters_70 : decode cX5_parameters 70 = .ok (.iconst 1, 1) := by decide +kernel
set_option maxRecDepth 100000 in
theorem dX5_parameters_71 : decode cX5_parameters 71 = .ok (.invokevirtual 310, 3) := by decide +kernel
set_option maxRecDepth 100000 in
theorem dX5_parameters_74 : decode cX5_parameters 74 = .ok (.invokevirtual 192, 3) := by decide +kernel
set_option maxRecDepth 100000 in
theorem dX5_parameters_77 : decode cX5_parameters 77 = .ok (.invokevirtual 163, 3) := by decide +kernel
set_option maxRecDepth 100000 in
theorem dX5_parameters_80 : decode cX5_parameters 80 = .ok (.athrow, 1) := by decide +kernel
set_option maxRecDepth 100000 in
theorem dX5_parameters_81 : decode cX5_parameters 81 = .ok (.aload_n 3, 1) := by decide +kernel
set_option maxRecDepth 100000 in
theorem dX5_parameters_82 : decode cX5_parameters 82 = .ok (.getfield 251, 3) := by decide +kernel
set_option maxRecDepth 100000 in
theorem dX5_parameters_85 : decode cX5_parameters 85 = .ok (.getfield 251, 3) := by decide +kernel
set_option maxRecDepth 100000 in
theorem dX5_parameters_88 : decode cX5_parameters 88 = .ok (.astore 5, 2) := by decide +kernel
set_option maxRecDepth 100000 in
theorem dX5_parameters_90 : decode cX5_parameters 90 = .ok (.aload 5, 2) := by decide +kernel
set_option maxRecDepth 100000 in
theorem dX5_parameters_92 : decode cX5_parameters 92 = .ok (.ifnull 103, 3) := by decide +kernel
set_option maxRecDepth 100000 in
theorem dX5_parameters_95 : decode cX5_parameters 95 = .ok (.new 548, 3) := by decide +kernel
set_option maxRecDepth 100000 in
theorem dX5_parameters_98 : decode cX5_parameters 98 = .ok (.dup, 1) := by decide +kernel
set_option maxRecDepth 100000 in
theorem dX5_parameters_99 : decode cX5_parameters 99 = .ok (.aload_n 3, 1) := by decide +kernel
set_option maxRecDepth 100000 in
theorem dX5_parameters_100 : decode cX5_parameters 100 = .ok (.getfield 264, 3) := by decide +kernel
set_option maxRecDepth 100000 in
theorem dX5_parameters_103 : decode cX5_parameters 103 = .ok (.bipush 25, 2) := by decide +kernel
set_option maxRecDepth 100000 in
theorem dX5_parameters_105 : decode cX5_parameters 105 = .ok (.if_icmp .ne 7, 3) := by decide +kernel
set_option maxRecDepth 100000 in
theorem dX5_parameters_108 : decode cX5_parameters 108 = .ok (.iconst 1, 1) := by decide +kernel
set_option maxRecDepth 100000 in
theorem dX5_parameters_109 : decode cX5_parameters 109 = .ok (.goto 4, 3) := by decide +kernel
set_option maxRecDepth 100000 in
theorem dX5_parameters_112 : decode cX5_parameters 112 = .ok (.iconst 0, 1) := by decide +kernel
set_option maxRecDepth 100000 in
theorem dX5_parameters_113 : decode cX5_parameters 113 = .ok (.aload 4, 2) := by decide +kernel
set_option maxRecDepth 100000 in
theorem dX5_parameters_115 : decode cX5_parameters 115 = .ok (.aconst_null, 1) := by decide +kernel
set_option maxRecDepth 100000 in
theorem dX5_parameters_116 : decode cX5_parameters 116 = .ok (.invokespecial 550, 3) := by decide +kernel
set_option maxRecDepth 100000 in
theorem dX5_parameters_119 : decode cX5_parameters 119 = .ok (.astore 6, 2) := by decide +kernel
set_option maxRecDepth 100000 in
theorem dX5_parameters_121 : decode cX5_parameters 121 = .ok (.new 103, 3) := by decide +kernel
set_option maxRecDepth 100000 in
theorem dX5_parameters_124 : decode cX5_parameters 124 = .ok (.dup, 1) := by decide +kernel
set_option maxRecDepth 100000 in
theorem dX5_parameters_125 : decode cX5_parameters 125 = .ok (.iconst 2, 1) := by decide +kernel
set_option maxRecDepth 100000 in
theorem dX5_parameters_126 : decode cX5_parameters 126 = .ok (.aload 5, 2) := by decide +kernel
set_option maxRecDepth 100000 in
theorem dX5_parameters_128 : decode cX5_parameters 128 = .ok (.invokevirtual 173, 3) := by decide +kernel
set_option maxRecDepth 100000 in
theorem dX5_parameters_131 : decode cX5_parameters 131 = .ok (.aload 4, 2) := by decide +kernel
set_option maxRecDepth 100000 in
theorem dX5_parameters_133 : decode cX5_parameters 133 = .ok (.invokespecial 109, 3) := by decide +kernel
set_option maxRecDepth 100000 in
theorem dX5_parameters_136 : decode cX5_parameters 136 = .ok (.astore 7, 2) := by decide +kernel
set_option maxRecDepth 100000 in
theorem dX5_parameters_138 : decode cX5_parameters 138 = .ok (.aload 7, 2) := by decide +kernel
set_option maxRecDepth 100000 in
theorem dX5_parameters_140 : decode cX5_parameters 140 = .ok (.aload_n 3, 1) := by decide +kernel
set_option maxRecDepth 100000 in
theorem dX5_parameters_141 : decode cX5_parameters 141 = .ok (.getfield 264, 3) := by decide +kernel
set_option maxRecDepth 100000 in
theorem dX5_parameters_144 : decode cX5_parameters 144 = .ok (.bipush 25, 2) := by decide +kernel
set_option maxRecDepth 100000 in
theorem dX5_parameters_146 : decode cX5_parameters 146 = .ok (.if_icmp .ne 7, 3) := by decide +kernel
set_option maxRecDepth 100000 in
theorem dX5_parameters_149 : decode cX5_parameters 149 = .ok (.iconst 1, 1) := by decide +kernel
set_option maxRecDepth 100000 in
theorem dX5_parameters_150 : decode cX5_parameters 150 = .ok (.goto 4, 3) := by decide +kernel
set_option maxRecDepth 100000 in
theorem dX5_parameters_153 : decode cX5_parameters 153 = .ok (.iconst 0, 1) := by decide +kernel
set_option maxRecDepth 100000 in
theorem dX5_parameters_154 : decode cX5_parameters 154 = .ok (.putfield 553, 3) := by decide +kernel
set_option maxRecDepth 100000 in
theorem dX5_parameters_157 : decode cX5_parameters 157 = .ok (.aload_n 0, 1) := by decide +kernel
set_option maxRecDepth 100000 in
theorem dX5_parameters_158 : decode cX5_parameters 158 = .ok (.aload_n 2, 1) := by decide +kernel
set_option maxRecDepth 100000 in
theorem dX5_parameters_159 : decode cX5_parameters 159 = .ok (.aload 6, 2) := by decide +kernel
set_option maxRecDepth 100000 in
theorem dX5_parameters_161 : decode cX5_parameters 161 = .ok (.aload 7, 2) := by decide +kernel
set_option maxRecDepth 100000 in
theorem dX5_parameters_163 : decode cX5_parameters 163 = .ok (.aload 5, 2) := by decide +kernel
set_option maxRecDepth 100000 in
theorem dX5_parameters_165 : decode cX5_parameters 165 = .ok (.aload 7, 2) := by decide +kernel
set_option maxRecDepth 100000 in
theorem dX5_parameters_167 : decode cX5_parameters 167 = .ok (.getfield 553, 3) := by decide +kernel
set_option maxRecDepth 100000 in
theorem dX5_parameters_170 : decode cX5_parameters 170 = .ok (.ifCond .eq 7, 3) := by decide +kernel
set_option maxRecDepth 100000 in
theorem dX5_parameters_173 : decode cX5_parameters 173 = .ok (.iconst 1, 1) := by decide +kernel
set_option maxRecDepth 100000 in
theorem dX5_parameters_174 : decode cX5_parameters 174 = .ok (.goto 8, 3) := by decide +kernel
set_option maxRecDepth 100000 in
theorem dX5_parameters_177 : decode cX5_parameters 177 = .ok (.aload 4, 2) := by decide +kernel
set_option maxRecDepth 100000 in
theorem dX5_parameters_179 : decode cX5_parameters 179 = .ok (.getfield 66, 3) := by decide +kernel
set_option maxRecDepth 100000 in
theorem dX5_parameters_182 : decode cX5_parameters 182 = .ok (.invokevirtual 556, 3) := by decide +kernel
set_option maxRecDepth 100000 in
theorem dX5_parameters_185 : decode cX5_parameters 185 = .ok (.aload 5, 2) := by decide +kernel
set_option maxRecDepth 100000 in
theorem dX5_parameters_187 : decode cX5_parameters 187 = .ok (.getfield 307, 3) := by decide +kernel
set_option maxRecDepth 100000 in
theorem dX5_parameters_190 : decode cX5_parameters 190 = .ok (.astore 5, 2) := by decide +kernel
set_option maxRecDepth 100000 in
theorem dX5_parameters_192 : decode cX5_parameters 192 = .ok (.goto (-102), 3) := by decide +kernel
set_option maxRecDepth 100000 in
theorem dX5_parameters_195 : decode cX5_parameters 195 = .ok (.aload_n 3, 1) := by decide +kernel
set_option maxRecDepth 100000 in
theorem dX5_parameters_196 : decode cX5_parameters 196 = .ok (.getfield 307, 3) := by decide +kernel
set_option maxRecDepth 100000 in
theorem dX5_parameters_199 : decode cX5_parameters 199 = .ok (.astore_n 3, 1) := by decide +kernel
set_option maxRecDepth 100000 in
theorem dX5_parameters_200 : decode cX5_parameters 200 = .ok (.goto (-195), 3) := by decide +kernel
set_option maxRecDepth 100000 in
theorem dX5_parameters_203 : decode cX5_parameters 203 = .ok (.return_, 1) := by decide +kernel
def lX5_parameters_5 (G : xG) (fr lo : Nat) (x0 : Nat) (x2 : Nat) (x3 : Nat) (h : xH) (Q : Outcome → xH → Prop) : Prop := xP G YX5_parameters fr lo 5 [(0, rv x0), (2, rv x2), (3, rv x3)] [] h Q
def lX5_parameters_90 (G : xG) (fr lo : Nat) (x0 : Nat) (x2 : Nat) (x3 : Nat) (x4 : Nat) (x5 : Nat) (h : xH) (Q : Outcome → xH → Prop) : Prop := xP G YX5_parameters fr lo 90 [(0, rv x0), (2, rv x2), (3, rv x3), (4, rv x4), (5, rv x5)] [] h Q
set_option maxRecDepth 100000 in
def bX5_parameters_195 (G : xG) (fr lo : Nat) (x0 : Nat) (x2 : Nat) (x3 : Nat) (h : xH) (Q : Outcome → xH → Prop) : Prop := tg h x3 = 16 ∧ lX5_parameters_5 G fr lo x0 x2 (fR h x3 3844) h Q
set_option maxRecDepth 100000 in
theorem uX5_parameters_195 {G : xG} {fr lo : Nat} {x0 : Nat} {x2 : Nat} {x3 : Nat} {h : xH} {Q : Outcome → xH → Prop} (hq : bX5_parameters_195 G fr lo x0 x2 x3 h Q) : xP G YX5_parameters fr lo 195 [(0, rv x0), (2, rv x2), (3, rv x3)] [] h Q := by
  unfold bX5_parameters_195 at hq
  refine x_aload_n 2 dX5_parameters_195 rfl ?_
  obtain ⟨g1, hq⟩ := hq
  refine x_getN (v := rv (fR h x3 3844)) gfX5_307 dX5_parameters_196 g1 rfl ?_
  refine x_astore_n (lv' := [(3, rv (fR h x3 3844)), (0, rv x0), (2, rv x2)]) dX5_parameters_199 (by decide) (by first | rfl | (simp [rv_cat, Value.category]; done) | (simp [rv_cat, Value.category]; decide)) ?_
  refine x_goto (tgt := 5) dX5_parameters_200 (by decide) ?_
  refine xP.pick (lv' := [(0, rv x0), (2, rv x2), (3, rv (fR h x3 3844))]) [1, 2, 0] rfl ?_
  exact hq
set_option maxRecDepth 100000 in
def bX5_parameters_182 (G : xG) (fr lo : Nat) (x0 : Nat) (x2 : Nat) (x3 : Nat) (x4 : Nat) (x5 : Nat) (s0 : Int32) (s1 : Nat) (s2 : Nat) (s3 : Nat) (s4 : Nat) (s5 : Nat) (h : xH) (Q : Outcome → xH → Prop) : Prop := tg h s5 = 6 ∧ 1 ≤ fr ∧ 17 ≤ lo ∧ xRv G YX5_parameter (fr - 1) (lo - 17) [rv s5, rv s4, rv s3, rv s2, rv s1, .int s0] h (fun h4 => xext h h4 → tg h4 x5 = 16 ∧ lX5_parameters_90 G fr lo x0 x2 x3 x4 (fR h4 x5 3844) h4 Q) (fun r h2 => Q (.threw r) h2)
set_option maxRecDepth 100000 in
theorem uX5_parameters_182 {G : xG} {fr lo : Nat} {x0 : Nat} {x2 : Nat} {x3 : Nat} {x4 : Nat} {x5 : Nat} {s0 : Int32} {s1 : Nat} {s2 : Nat} {s3 : Nat} {s4 : Nat} {s5 : Nat} {h : xH} {Q : Outcome → xH → Prop} (hq : bX5_parameters_182 G fr lo x0 x2 x3 x4 x5 s0 s1 s2 s3 s4 s5 h Q) : xP G YX5_parameters fr lo 182 [(0, rv x0), (2, rv x2), (3, rv x3), (4, rv x4), (5, rv x5)] [.int s0, rv s1, rv s2, rv s3, rv s4, rv s5] h Q := by
  unfold bX5_parameters_182 at hq
  obtain ⟨g1, hq⟩ := hq
  obtain ⟨g2, g3, hq⟩ := hq
  refine x_callV (Yc := YX5_parameter) (as := [rv s4, rv s3, rv s2, rv s1, .int s0]) (st := []) q2486 mvX5_parameter g1 rfl dX5_parameters_182 (xle (xal1 (rv_cat _) (xal1 (rv_cat _) (xal1 (rv_cat _) (xal1 (rv_cat _) (xal1 (rv_cat _) (xal1 rfl xal0)))))) (by decide)) (xfr g2) (xlo xsw0 (by decide) g3) (xKv hq (fun h4 hq e6 => ?_) (fun _ _ q _ => q))
  replace hq := hq e6
  refine x_aload 4 dX5_parameters_185 rfl ?_
  obtain ⟨g7, hq⟩ := hq
  refine x_getN (v := rv (fR h4 x5 3844)) gfX5_307 dX5_parameters_187 g7 rfl ?_
  refine x_astore (lv' := [(5, rv (fR h4 x5 3844)), (0, rv x0), (2, rv x2), (3, rv x3), (4, rv x4)]) dX5_parameters_190 (by decide) (by first | rfl | (simp [rv_cat, Value.category]; done) | (simp [rv_cat, Value.category]; decide)) ?_
  refine x_goto (tgt := 90) dX5_parameters_192 (by decide) ?_
  refine xP.pick (lv' := [(0, rv x0), (2, rv x2), (3, rv x3), (4, rv x4), (5, rv (fR h4 x5 3844))]) [1, 2, 3, 4, 0] rfl ?_
  exact hq
set_option maxRecDepth 100000 in
def bX5_parameters_154 (G : xG) (fr lo : Nat) (x0 : Nat) (x2 : Nat) (x3 : Nat) (x4 : Nat) (x5 : Nat) (x6 : Nat) (x7 : Nat) (s0 : Int32) (s1 : Nat) (h : xH) (Q : Outcome → xH → Prop) : Prop := tg h s1 = 9 ∧ xbz s0 ∧ (∀ h3 : xH, h3 = sI h s1 2056 s0 → tg h3 x7 = 9 ∧ (((fI h3 x7 2056) = 0 → tg h3 x4 = 7 ∧ bX5_parameters_182 G fr lo x0 x2 x3 x4 x5 (fI h3 x4 1543) x5 x7 x6 x2 x0 h3 Q) ∧ (¬ (fI h3 x7 2056) = 0 → bX5_parameters_182 G fr lo x0 x2 x3 x4 x5 1 x5 x7 x6 x2 x0 h3 Q)))
set_option maxRecDepth 100000 in
theorem uX5_parameters_154 {G : xG} {fr lo : Nat} {x0 : Nat} {x2 : Nat} {x3 : Nat} {x4 : Nat} {x5 : Nat} {x6 : Nat} {x7 : Nat} {s0 : Int32} {s1 : Nat} {h : xH} {Q : Outcome → xH → Prop} (hq : bX5_parameters_154 G fr lo x0 x2 x3 x4 x5 x6 x7 s0 s1 h Q) : xP G YX5_parameters fr lo 154 [(0, rv x0), (2, rv x2), (3, rv x3), (4, rv x4), (5, rv x5), (6, rv x6), (7, rv x7)] [.int s0, rv s1] h Q := by
  unfold bX5_parameters_154 at hq
  obtain ⟨g1, hq⟩ := hq
  obtain ⟨g2, hq⟩ := hq
  obtain ⟨h3, e4⟩ : ∃ y, y = sI h s1 2056 s0 := ⟨_, rfl⟩
  replace hq := hq h3 e4
  refine x_putNI gfX5_553 xty_Z1 dX5_parameters_154 g1 (Or.inl (by rw [g1]; rfl)) (xnB g2) rfl e4 ?_
  refine x_aload_n 0 dX5_parameters_157 rfl ?_
  refine x_aload_n 1 dX5_parameters_158 rfl ?_
  refine x_aload 5 dX5_parameters_159 rfl ?_
  refine x_aload 6 dX5_parameters_161 rfl ?_
  refine x_aload 4 dX5_parameters_163 rfl ?_
  refine x_aload 6 dX5_parameters_165 rfl ?_
  obtain ⟨g5, hq⟩ := hq
  refine x_getN (v := .int (fI h3 x7 2056)) gfX5_553 dX5_parameters_167 g5 rfl ?_
  refine x_if_eq (tgt := 177) dX5_parameters_170 (by decide) (fun c6 => ?_) (fun c6 => ?_)
  · replace hq := hq.1 c6
    refine x_aload 3 dX5_parameters_177 rfl ?_
    obtain ⟨g7, hq⟩ := hq
    refine x_getN (v := .int (fI h3 x4 1543)) gfX5_66 dX5_parameters_179 g7 rfl ?_
    refine xP.pick (lv' := [(0, rv x0), (2, rv x2), (3, rv x3), (4, rv x4), (5, rv x5)]) [0, 1, 2, 3, 4] rfl ?_
    exact uX5_parameters_182 hq
  · replace hq := hq.2 c6
    refine x_iconst (v := 1) dX5_parameters_173 (by decide) ?_
    refine x_goto (tgt := 182) dX5_parameters_174 (by decide) ?_
    refine xP.pick (lv' := [(0, rv x0), (2, rv x2), (3, rv x3), (4, rv x4), (5, rv x5)]) [0, 1, 2, 3, 4] rfl ?_
    exact uX5_parameters_182 hq
set_option maxRecDepth 100000 in
def bX5_parameters_113 (G : xG) (fr lo : Nat) (x0 : Nat) (x2 : Nat) (x3 : Nat) (x4 : Nat) (x5 : Nat) (s0 : Int32) (s1 : Nat) (s2 : Nat) (h : xH) (Q : Outcome → xH → Prop) : Prop := tg h s1 = 22 ∧ 1 ≤ fr ∧ 16 ≤ lo ∧ xRv G YX21_init (fr - 1) (lo - 16) [rv s1, .int s0, rv x4, rv 0] h (fun h4 => xext h h4 → nx h4 + 1 ≤ xGN G ∧ us h4 + 12 ≤ xGU G ∧ (∀ (a9 : Nat) (h10 : xH), a9 = nx h4 + 1 → h10 = nO h4 9 12 → xfresh h4 a9 → tg h10 x5 = 16 ∧ 1 ≤ fr ∧ 15 ≤ lo ∧ xRr G YX15_text (fr - 1) (lo - 15) [rv x5] h10 (fun x19 h18 => xext h10 h18 → 1 ≤ fr ∧ 16 ≤ lo ∧ xRv G YX8_init (fr - 1) (lo - 16) [rv a9, .int 2, rv x19, rv x4] h18 (fun h24 => xext h18 h24 → tg h24 x3 = 16 ∧ ((¬ (fI h24 x3 3840) = 25 → bX5_parameters_154 G fr lo x0 x2 x3 x4 x5 s2 a9 0 a9 h24 Q) ∧ ((fI h24 x3 3840) = 25 → bX5_parameters_154 G fr lo x0 x2 x3 x4 x5 s2 a9 1 a9 h24 Q))) (fun r h2 => Q (.threw r) h2)) (fun r h2 => Q (.threw r) h2))) (fun r h2 => Q (.threw r) h2)
set_option maxRecDepth 100000 in
theorem uX5_parameters_113 {G : xG} {fr lo : Nat} {x0 : Nat} {x2 : Nat} {x3 : Nat} {x4 : Nat} {x5 : Nat} {s0 : Int32} {s1 : Nat} {s2 : Nat} {h : xH} {Q : Outcome → xH → Prop} (hq : bX5_parameters_113 G fr lo x0 x2 x3 x4 x5 s0 s1 s2 h Q) : xP G YX5_parameters fr lo 113 [(0, rv x0), (2, rv x2), (3, rv x3), (4, rv x4), (5, rv x5)] [.int s0, rv s1, rv s2] h Q := by
  unfold bX5_parameters_113 at hq
  refine x_aload 3 dX5_parameters_113 rfl ?_
  refine x_null dX5_parameters_115 ?_
  obtain ⟨g1, hq⟩ := hq
  obtain ⟨g2, g3, hq⟩ := hq
  refine x_callI (Yc := YX21_init) (as := [.int s0, rv x4, rv 0]) (st := [rv s2]) q2457 miX21_init (by rw [g1]; decide) rfl dX5_parameters_116 (xle (xal1 (rv_cat _) (xal1 rfl (xal1 (rv_cat _) (xal1 (rv_cat _) xal0)))) (by decide)) (xfr g2) (xlo (xsw1 (rv_cat _) xsw0) (by decide) g3) (xKv hq (fun h4 hq e6 => ?_) (fun _ _ q _ => q))
  replace hq := hq e6
  refine x_astore (lv' := [(6, rv s2), (0, rv x0), (2, rv x2), (3, rv x3), (4, rv x4), (5, rv x5)]) dX5_parameters_119 (by decide) (by first | rfl | (simp [rv_cat, Value.category]; done) | (simp [rv_cat, Value.category]; decide)) ?_
  obtain ⟨g7, g8, hq⟩ := hq
  obtain ⟨a9, e11⟩ : ∃ y, y = nx h4 + 1 := ⟨_, rfl⟩
  obtain ⟨h10, e12⟩ : ∃ y, y = nO h4 9 12 := ⟨_, rfl⟩
  refine x_new' cdX5_103 dX5_parameters_121 g7 g8 e11 e12 (fun f13 => ?_)
  replace hq := hq a9 h10 e11 e12 f13
  have t14 : tg h10 a9 = 9 := by rw [e12, e11]; exact tg_nO
  refine x_dup dX5_parameters_124 (rv_cat _) ?_
  refine x_iconst (v := 2) dX5_parameters_125 (by decide) ?_
  refine x_aload 5 dX5_parameters_126 rfl ?_
  obtain ⟨g15, hq⟩ := hq
  obtain ⟨g16, g17, hq⟩ := hq
  refine x_callV (Yc := YX15_text) (as := []) (st := [.int 2, rv a9, rv a9]) q2009 mvX15_text g15 rfl dX5_parameters_128 (xle (xal1 (rv_cat _) xal0) (by decide)) (xfr g16) (xlo (xsw1 rfl (xsw1 (rv_cat _) (xsw1 (rv_cat _) xsw0))) (by decide) g17) (xKr hq (fun x19 h18 hq e20 => ?_) (fun _ _ q _ => q))
  replace hq := hq e20
  refine x_aload 4 dX5_parameters_131 rfl ?_
  have t21 : tg h18 a9 = 9 := e20.tg t14 (by decide)
  obtain ⟨g22, g23, hq⟩ := hq
  refine x_callI (Yc := YX8_init) (as := [.int 2, rv x19, rv x4]) (st := [rv a9]) q961 miX8_init (by rw [t21]; decide) rfl dX5_parameters_133 (xle (xal1 (rv_cat _) (xal1 rfl (xal1 (rv_cat _) (xal1 (rv_cat _) xal0)))) (by decide)) (xfr g22) (xlo (xsw1 (rv_cat _) xsw0) (by decide) g23) (xKv hq (fun h24 hq e26 => ?_) (fun _ _ q _ => q))
  replace hq := hq e26
  refine x_astore (lv' := [(7, rv a9), (6, rv s2), (0, rv x0), (2, rv x2), (3, rv x3), (4, rv x4), (5, rv x5)]) dX5_parameters_136 (by decide) (by first | rfl | (simp [rv_cat, Value.category]; done) | (simp [rv_cat, Value.category]; decide)) ?_
  refine x_aload 0 dX5_parameters_138 rfl ?_
  refine x_aload_n 4 dX5_parameters_140 rfl ?_
  obtain ⟨g27, hq⟩ := hq
  refine x_getN (v := .int (fI h24 x3 3840)) gfX5_264 dX5_parameters_141 g27 rfl ?_
  refine x_bipush (v := 25) dX5_parameters_144 (by decide) ?_
  refine x_icmp_ne (tgt := 153) dX5_parameters_146 (by decide) (fun c28 => ?_) (fun c28 => ?_)
  · replace hq := hq.1 c28
    refine x_iconst (v := 0) dX5_parameters_153 (by decide) ?_
    refine xP.pick (lv' := [(0, rv x0), (2, rv x2), (3, rv x3), (4, rv x4), (5, rv x5), (6, rv s2), (7, rv a9)]) [2, 3, 4, 5, 6, 1, 0] rfl ?_
    exact uX5_parameters_154 hq
  · replace hq := hq.2 c28
    refine x_iconst (v := 1) dX5_parameters_149 (by decide) ?_
    refine x_goto (tgt := 154) dX5_parameters_150 (by decide) ?_
    refine xP.pick (lv' := [(0, rv x0), (2, rv x2), (3, rv x3), (4, rv x4), (5, rv x5), (6, rv s2), (7, rv a9)]) [2, 3, 4, 5, 6, 1, 0] rfl ?_
    exact uX5_parameters_154 hq
set_option maxRecDepth 100000 in
def bX5_parameters_90 (G : xG) (fr lo : Nat) (x0 : Nat) (x2 : Nat) (x3 : Nat) (x4 : Nat) (x5 : Nat) (h : xH) (Q : Outcome → xH → Prop) : Prop := ((x5 = 0 → bX5_parameters_195 G fr lo x0 x2 x3 h Q) ∧ (¬ x5 = 0 → nx h + 1 ≤ xGN G ∧ us h + 5 ≤ xGU G ∧ (∀ (a4 : Nat) (h5 : xH), a4 = nx h + 1 → h5 = nO h 22 5 → xfresh h a4 → tg h5 x3 = 16 ∧ ((¬ (fI h5 x3 3840) = 25 → bX5_parameters_113 G fr lo x0 x2 x3 x4 x5 0 a4 a4 h5 Q) ∧ ((fI h5 x3 3840) = 25 → bX5_parameters_113 G fr lo x0 x2 x3 x4 x5 1 a4 a4 h5 Q)))))
set_option maxRecDepth 100000 in
theorem uX5_parameters_90 {G : xG} {fr lo : Nat} {x0 : Nat} {x2 : Nat} {x3 : Nat} {x4 : Nat} {x5 : Nat} {h : xH} {Q : Outcome → xH → Prop} (hq : bX5_parameters_90 G fr lo x0 x2 x3 x4 x5 h Q) : xP G YX5_parameters fr lo 90 [(0, rv x0), (2, rv x2), (3, rv x3), (4, rv x4), (5, rv x5)] [] h Q := by
  unfold bX5_parameters_90 at hq
  refine x_aload 4 dX5_parameters_90 rfl ?_
  refine x_ifnull (tgt := 195) dX5_parameters_92 (by decide) (fun c1 => ?_) (fun c1 => ?_)
  · replace hq := hq.1 c1
    refine xP.pick (lv' := [(0, rv x0), (2, rv x2), (3, rv x3)]) [0, 1, 2] rfl ?_
    exact uX5_parameters_195 hq
  · replace hq := hq.2 c1
    obtain ⟨g2, g3, hq⟩ := hq
    obtain ⟨a4, e6⟩ : ∃ y, y = nx h + 1 := ⟨_, rfl⟩
    obtain ⟨h5, e7⟩ : ∃ y, y = nO h 22 5 := ⟨_, rfl⟩
    refine x_new' cdX5_548 dX5_parameters_95 g2 g3 e6 e7 (fun f8 => ?_)
    replace hq := hq a4 h5 e6 e7 f8
    have t9 : tg h5 a4 = 22 := by rw [e7, e6]; exact tg_nO
    refine x_dup dX5_parameters_98 (rv_cat _) ?_
    refine x_aload_n 2 dX5_parameters_99 rfl ?_
    obtain ⟨g10, hq⟩ := hq
    refine x_getN (v := .int (fI h5 x3 3840)) gfX5_264 dX5_parameters_100 g10 rfl ?_
    refine x_bipush (v := 25) dX5_parameters_103 (by decide) ?_
    refine x_icmp_ne (tgt := 112) dX5_parameters_105 (by decide) (fun c11 => ?_) (fun c11 => ?_)
    · replace hq := hq.1 c11
      refine x_iconst (v := 0) dX5_parameters_112 (by decide) ?_
      exact uX5_parameters_113 hq
    · replace hq := hq.2 c11
      refine x_iconst (v := 1) dX5_parameters_108 (by decide) ?_
      refine x_goto (tgt := 113) dX5_parameters_109 (by decide) ?_
      exact uX5_parameters_113 hq
set_option maxRecDepth 100000 in
def bX5_parameters_81 (G : xG) (fr lo : Nat) (x0 : Nat) (x2 : Nat) (x3 : Nat) (x4 : Nat) (h : xH) (Q : Outcome → xH → Prop) : Prop := tg h x3 = 16 ∧ tg h (fR h x3 3842) = 16 ∧ lX5_parameters_90 G fr lo x0 x2 x3 x4 (fR h (fR h x3 3842) 3842) h Q
set_option maxRecDepth 100000 in
theorem uX5_parameters_81 {G : xG} {fr lo : Nat} {x0 : Nat} {x2 : Nat} {x3 : Nat} {x4 : Nat} {h : xH} {Q : Outcome → xH → Prop} (hq : bX5_parameters_81 G fr lo x0 x2 x3 x4 h Q) : xP G YX5_parameters fr lo 81 [(0, rv x0), (2, rv x2), (3, rv x3), (4, rv x4)] [] h Q := by
  unfold bX5_parameters_81 at hq
  refine x_aload_n 2 dX5_parameters_81 rfl ?_
  obtain ⟨g1, hq⟩ := hq
  refine x_getN (v := rv (fR h x3 3842)) gfX5_251 dX5_parameters_82 g1 rfl ?_
  obtain ⟨g2, hq⟩ := hq
  refine x_getN (v := rv (fR h (fR h x3 3842) 3842)) gfX5_251 dX5_parameters_85 g2 rfl ?_
  refine x_astore (lv' := [(5, rv (fR h (fR h x3 3842) 3842)), (0, rv x0), (2, rv x2), (3, rv x3), (4, rv x4)]) dX5_parameters_88 (by decide) (by first | rfl | (simp [rv_cat, Value.category]; done) | (simp [rv_cat, Value.category]; decide)) ?_
  refine xP.pick (lv' := [(0, rv x0), (2, rv x2), (3, rv x3), (4, rv x4), (5, rv (fR h (fR h x3 3842) 3842))]) [1, 2, 3, 4, 0] rfl ?_
  exact hq
set_option maxRecDepth 100000 in
def bX5_parameters_27 (G : xG) (fr lo : Nat) (x0 : Nat) (x2 : Nat) (x3 : Nat) (h : xH) (Q : Outcome → xH → Prop) : Prop := tg h x0 = 6 ∧ 1 ≤ fr ∧ 17 ≤ lo ∧ xRv G YX5_formal (fr - 1) (lo - 17) [rv x0, rv x3, rv x2] h (fun h4 => xext h h4 → bX5_parameters_195 G fr lo x0 x2 x3 h4 Q) (fun r h2 => Q (.threw r) h2)
set_option maxRecDepth 100000 in
theorem uX5_parameters_27 {G : xG} {fr lo : Nat} {x0 : Nat} {x2 : Nat} {x3 : Nat} {h : xH} {Q : Outcome → xH → Prop} (hq : bX5_parameters_27 G fr lo x0 x2 x3 h Q) : xP G YX5_parameters fr lo 27 [(0, rv x0), (2, rv x2), (3, rv x3)] [] h Q := by
  unfold bX5_parameters_27 at hq
  refine x_aload_n 0 dX5_parameters_27 rfl ?_
  refine x_aload_n 2 dX5_parameters_28 rfl ?_
  refine x_aload_n 1 dX5_parameters_29 rfl ?_
  obtain ⟨g1, hq⟩ := hq
  obtain ⟨g2, g3, hq⟩ := hq
  refine x_callV (Yc := YX5_formal) (as := [rv x3, rv x2]) (st := []) q2443 mvX5_formal g1 rfl dX5_parameters_30 (xle (xal1 (rv_cat _) (xal1 (rv_cat _) (xal1 (rv_cat _) xal0))) (by decide)) (xfr g2) (xlo xsw0 (by decide) g3) (xKv hq (fun h4 hq e6 => ?_) (fun _ _ q _ => q))
  replace hq := hq e6
  refine x_goto (tgt := 195) dX5_parameters_33 (by decide) ?_
  exact uX5_parameters_195 hq
set_option maxRecDepth 100000 in
def bX5_parameters_5 (G : xG) (fr lo : Nat) (x0 : Nat) (x2 : Nat) (x3 : Nat) (h : xH) (Q : Outcome → xH → Prop) : Prop := ((x3 = 0 → Q (.returned none) h) ∧ (¬ x3 = 0 → tg h x3 = 16 ∧ (((fI h x3 3840) = 20 → bX5_parameters_27 G fr lo x0 x2 x3 h Q) ∧ (¬ (fI h x3 3840) = 20 → ((¬ (fI h x3 3840) = 21 → 1 ≤ fr ∧ 16 ≤ lo ∧ xRr G YX15_kid (fr - 1) (lo - 16) [rv x3, .int 1] h (fun x8 h7 => xext h h7 → tg h7 x0 = 6 ∧ 1 ≤ fr ∧ 13 ≤ lo ∧ xRr G YX5_namedType (fr - 1) (lo - 13) [rv x0, rv x8] h7 (fun x14 h13 => xext h7 h13 → ((¬ (fI h13 x3 3840) = 24 → bX5_parameters_81 G fr lo x0 x2 x3 x14 h13 Q) ∧ ((fI h13 x3 3840) = 24 → tg h13 x14 = 7 ∧ ((¬ (fI h13 x14 1536) = 10 → bX5_parameters_81 G fr lo x0 x2 x3 x14 h13 Q) ∧ ((fI h13 x14 1536) = 10 → 1 ≤ fr ∧ 17 ≤ lo ∧ xRr G YX15_kid (fr - 1) (lo - 17) [rv x3, .int 1] h13 (fun x24 h23 => xext h13 h23 → tg h23 x24 = 16 ∧ 1 ≤ fr ∧ 14 ≤ lo ∧ xRi G YX15_place (fr - 1) (lo - 14) [rv x24] h23 (fun x30 h29 => xext h23 h29 → 1 ≤ fr ∧ 14 ≤ lo ∧ xRr G YX5_fault (fr - 1) (lo - 14) [rv x0, .int 7, .int x30] h29 (fun x38 h37 => xext h29 h37 → (∃ r40, x38 = r40 + 1 ∧ Q (.threw r40) h37)) (fun r h2 => Q (.threw r) h2)) (fun r h2 => Q (.threw r) h2)) (fun r h2 => Q (.threw r) h2)))))) (fun r h2 => Q (.threw r) h2)) (fun r h2 => Q (.threw r) h2)) ∧ ((fI h x3 3840) = 21 → bX5_parameters_27 G fr lo x0 x2 x3 h Q))))))
set_option maxRecDepth 100000 in
theorem uX5_parameters_5 {G : xG} {fr lo : Nat} {x0 : Nat} {x2 : Nat} {x3 : Nat} {h : xH} {Q : Outcome → xH → Prop} (hq : bX5_parameters_5 G fr lo x0 x2 x3 h Q) : xP G YX5_parameters fr lo 5 [(0, rv x0), (2, rv x2), (3, rv x3)] [] h Q := by
  unfold bX5_parameters_5 at hq
  refine x_aload_n 2 dX5_parameters_5 rfl ?_
  refine x_ifnull (tgt := 203) dX5_parameters_6 (by decide) (fun c1 => ?_) (fun c1 => ?_)
  · replace hq := hq.1 c1
    exact x_vret rfl dX5_parameters_203 hq
  · replace hq := hq.2 c1
    refine x_aload_n 2 dX5_parameters_9 rfl ?_
    obtain ⟨g2, hq⟩ := hq
    refine x_getN (v := .int (fI h x3 3840)) gfX5_264 dX5_parameters_10 g2 rfl ?_
    refine x_bipush (v := 20) dX5_parameters_13 (by decide) ?_
    refine x_icmp_eq (tgt := 27) dX5_parameters_15 (by decide) (fun c3 => ?_) (fun c3 => ?_)
    · replace hq := hq.1 c3
      exact uX5_parameters_27 hq
    · replace hq := hq.2 c3
      refine x_aload_n 2 dX5_parameters_18 rfl ?_
      refine x_getN (v := .int (fI h x3 3840)) gfX5_264 dX5_parameters_19 g2 rfl ?_
      refine x_bipush (v := 21) dX5_parameters_22 (by decide) ?_
      refine x_icmp_ne (tgt := 36) dX5_parameters_24 (by decide) (fun c4 => ?_) (fun c4 => ?_)
      · replace hq := hq.1 c4
        refine x_aload_n 0 dX5_parameters_36 rfl ?_
        refine x_aload_n 2 dX5_parameters_37 rfl ?_
        refine x_iconst (v := 1) dX5_parameters_38 (by decide) ?_
        obtain ⟨g5, g6, hq⟩ := hq
        refine x_callV (Yc := YX15_kid) (as := [.int 1]) (st := [rv x0]) q2129 mvX15_kid g2 rfl dX5_parameters_39 (xle (xal1 (rv_cat _) (xal1 rfl xal0)) (by decide)) (xfr g5) (xlo (xsw1 (rv_cat _) xsw0) (by decide) g6) (xKr hq (fun x8 h7 hq e9 => ?_) (fun _ _ q _ => q))
        replace hq := hq e9
        obtain ⟨g10, hq⟩ := hq
        obtain ⟨g11, g12, hq⟩ := hq
        refine x_callV (Yc := YX5_namedType) (as := [rv x8]) (st := []) q2276 mvX5_namedType g10 rfl dX5_parameters_42 (xle (xal1 (rv_cat _) (xal1 (rv_cat _) xal0)) (by decide)) (xfr g11) (xlo xsw0 (by decide) g12) (xKr hq (fun x14 h13 hq e15 => ?_) (fun _ _ q _ => q))
        replace hq := hq e15
        refine x_astore (lv' := [(4, rv x14), (0, rv x0), (2, rv x2), (3, rv x3)]) dX5_parameters_45 (by decide) (by first | rfl | (simp [rv_cat, Value.category]; done) | (simp [rv_cat, Value.category]; decide)) ?_
        refine x_aload_n 3 dX5_parameters_47 rfl ?_
        have t16 : tg h7 x3 = 16 := e9.tg g2 (by decide)
        have t17 : tg h13 x3 = 16 := e15.tg t16 (by decide)
        refine x_getN (v := .int (fI h13 x3 3840)) gfX5_264 dX5_parameters_48 t17 rfl ?_
        refine x_bipush (v := 24) dX5_parameters_51 (by decide) ?_
        refine x_icmp_ne (tgt := 81) dX5_parameters_53 (by decide) (fun c18 => ?_) (fun c18 => ?_)
        · replace hq := hq.1 c18
          refine xP.pick (lv' := [(0, rv x0), (2, rv x2), (3, rv x3), (4, rv x14)]) [1, 2, 3, 0] rfl ?_
          exact uX5_parameters_81 hq
        · replace hq := hq.2 c18
          refine x_aload 0 dX5_parameters_56 rfl ?_
          obtain ⟨g19, hq⟩ := hq
          refine x_getN (v := .int (fI h13 x14 1536)) gfX5_289 dX5_parameters_58 g19 rfl ?_
          refine x_bipush (v := 10) dX5_parameters_61 (by decide) ?_
          refine x_icmp_ne (tgt := 81) dX5_parameters_63 (by decide) (fun c20 => ?_) (fun c20 => ?_)
          · replace hq := hq.1 c20
            refine xP.pick (lv' := [(0, rv x0), (2, rv x2), (3, rv x3), (4, rv x14)]) [1, 2, 3, 0] rfl ?_
            exact uX5_parameters_81 hq
          · replace hq := hq.2 c20
            refine x_aload_n 1 dX5_parameters_66 rfl ?_
            refine x_bipush (v := 7) dX5_parameters_67 (by decide) ?_
            refine x_aload_n 3 dX5_parameters_69 rfl ?_
            refine x_iconst (v := 1) dX5_parameters_70 (by decide) ?_
            obtain ⟨g21, g22, hq⟩ := hq
            refine x_callV (Yc := YX15_kid) (as := [.int 1]) (st := [.int 7, rv x0]) q2129 mvX15_kid t17 rfl dX5_parameters_71 (xle (xal1 (rv_cat _) (xal1 rfl xal0)) (by decide)) (xfr g21) (xlo (xsw1 rfl (xsw1 (rv_cat _) xsw0)) (by decide) g22) (xKr hq (fun x24 h23 hq e25 => ?_) (fun _ _ q _ => q))
            replace hq := hq e25
            obtain ⟨g26, hq⟩ := hq
            obtain ⟨g27, g28, hq⟩ := hq
            refine x_callV (Yc := YX15_place) (as := []) (st := [.int 7, rv x0]) q2013 mvX15_place g26 rfl dX5_parameters_74 (xle (xal1 (rv_cat _) xal0) (by decide)) (xfr g27) (xlo (xsw1 rfl (xsw1 (rv_cat _) xsw0)) (by decide) g28) (xKi hq (fun x30 h29 hq e31 => ?_) (fun _ _ q _ => q))
            replace hq := hq e31
            have t32 : tg h13 x0 = 6 := e15.tg g10 (by decide)
            have t33 : tg h23 x0 = 6 := e25.tg t32 (by decide)
            have t34 : tg h29 x0 = 6 := e31.tg t33 (by decide)
            obtain ⟨g35, g36, hq⟩ := hq
            refine x_callV (Yc := YX5_fault) (as := [.int 7, .int x30]) (st := []) q2087 mvX5_fault t34 rfl dX5_parameters_77 (xle (xal1 (rv_cat _) (xal1 rfl (xal1 rfl xal0))) (by decide)) (xfr g35) (xlo xsw0 (by decide) g36) (xKr hq (fun x38 h37 hq e39 => ?_) (fun _ _ q _ => q))
            replace hq := hq e39
            obtain ⟨r40, g41, hq⟩ := hq
            rw [g41]
            exact x_athrow dX5_parameters_80 hq
      · replace hq := hq.2 c4
        exact uX5_parameters_27 hq
set_option maxRecDepth 100000 in
def bX5_parameters (G : xG) (fr lo : Nat) (x0 : Nat) (x1 : Nat) (x2 : Nat) (h : xH) (Q : Outcome → xH → Prop) : Prop := tg h x1 = 16 ∧ lX5_parameters_5 G fr lo x0 x2 (fR h x1 3842) h Q
set_option maxRecDepth 100000 in
theorem uX5_parameters {G : xG} {fr lo : Nat} {x0 : Nat} {x1 : Nat} {x2 : Nat} {h : xH} {Q : Outcome → xH → Prop} (hq : bX5_parameters G fr lo x0 x1 x2 h Q) : xP G YX5_parameters fr lo 0 [(0, rv x0), (1, rv x1), (2, rv x2)] [] h Q := by
  unfold bX5_parameters at hq
  refine x_aload_n 1 dX5_parameters_0 rfl ?_
  obtain ⟨g1, hq⟩ := hq
  refine x_getN (v := rv (fR h x1 3842)) gfX5_251 dX5_parameters_1 g1 rfl ?_
  refine x_astore_n (lv' := [(3, rv (fR h x1 3842)), (0, rv x0), (1, rv x1), (2, rv x2)]) dX5_parameters_4 (by decide) (by first | rfl | (simp [rv_cat, Value.category]; done) | (simp [rv_cat, Value.category]; decide)) ?_
  refine xP.pick (lv' := [(0, rv x0), (2, rv x2), (3, rv (fR h x1 3842))]) [1, 3, 0] rfl ?_
  exact hq
theorem rX5_parameters {G : xG} {fr lo : Nat} {x0 : Nat} {x1 : Nat} {x2 : Nat} {h : xH} {Q : Outcome → xH → Prop} (hq : bX5_parameters G fr lo x0 x1 x2 h Q) : xR G YX5_parameters fr lo [rv x0, rv x1, rv x2] h Q := by
  show xP _ _ _ _ _ (lv_args 0 _) _ _ _
  rw [show lv_args 0 [rv x0, rv x1, rv x2] = [(0, rv x0), (1, rv x1), (2, rv x2)] from (xla1 (rv_cat _) (xla1 (rv_cat _) (xla1 (rv_cat _) xla0)))]
  exact uX5_parameters hq
set_option maxRecDepth 100000 in
theorem dX5_formal_0 : decode cX5_formal 0 = .ok (.new 406, 3) := by decide +kernel
set_option maxRecDepth 100000 in
theorem dX5_formal_3 : decode cX5_formal 3 = .ok (.dup, 1) := by decide +kernel
set_option maxRecDepth 100000 in
theorem dX5_formal_4 : decode cX5_formal 4 = .ok (.aload_n 1, 1) := by decide +kernel
set_option maxRecDepth 100000 in
theorem dX5_formal_5 : decode cX5_formal 5 = .ok (.invokevirtual 173, 3) := by decide +kernel
set_option maxRecDepth 100000 in
theorem dX5_formal_8 : decode cX5_formal 8 = .ok (.aload_n 1, 1) := by decide +kernel
set_option maxRecDepth 100000 in
theorem dX5_formal_9 : decode cX5_formal 9 = .ok (.getfield 264, 3) := by decide +kernel
set_option maxRecDepth 100000 in
theorem dX5_formal_12 : decode cX5_formal 12 = .ok (.bipush 21, 2) := by decide +kernel
set_option maxRecDepth 100000 in
theorem dX5_formal_14 : decode cX5_formal 14 = .ok (.if_icmp .ne 7, 3) := by decide +kernel
set_option maxRecDepth 100000 in
theorem dX5_formal_17 : decode cX5_formal 17 = .ok (.iconst 1, 1) := by decide +kernel
set_option maxRecDepth 100000 in
theorem dX5_formal_18 : decode cX5_formal 18 = .ok (.goto 4, 3) := by decide +kernel
set_option maxRecDepth 100000 in
theorem dX5_formal_21 : decode cX5_formal 21 = .ok (.iconst 0, 1) := by decide +kernel
set_option maxRecDepth 100000 in
theorem dX5_formal_22 : decode cX5_formal 22 = .ok (.aload_n 1, 1) := by decide +kernel
set_option maxRecDepth 100000 in
theorem dX5_formal_23 : decode cX5_formal 23 = .ok (.invokevirtual 192, 3) := by decide +kernel
set_option maxRecDepth 100000 in
theorem dX5_formal_26 : decode cX5_formal 26 = .ok (.invokespecial 408, 3) := by decide +kernel
set_option maxRecDepth 100000 in
theorem dX5_formal_29 : decode cX5_formal 29 = .ok (.astore_n 3, 1) := by decide +kernel
set_option maxRecDepth 100000 in
theorem dX5_formal_30 : decode cX5_formal 30 = .ok (.aload_n 3, 1) := by decide +kernel
set_option maxRecDepth 100000 in
theorem dX5_formal_31 : decode cX5_formal 31 = .ok (.iconst 1, 1) := by decide +kernel
set_option maxRecDepth 100000 in
theorem dX5_formal_32 : decode cX5_formal 32 = .ok (.putfield 522, 3) := by decide +kernel
set_option maxRecDepth 100000 in
theorem dX5_formal_35 : decode cX5_formal 35 = .ok (.aload_n 3, 1) := by decide +kernel
set_option maxRecDepth 100000 in
theorem dX5_formal_36 : decode cX5_formal 36 = .ok (.aload_n 2, 1) := by decide +kernel
set_option maxRecDepth 100000 in
theorem dX5_formal_37 : decode cX5_formal 37 = .ok (.getfield 447, 3) := by decide +kernel
set_option maxRecDepth 100000 in
theorem dX5_formal_40 : decode cX5_formal 40 = .ok (.putfield 447, 3) := by decide +kernel
set_option maxRecDepth 100000 in
theorem dX5_formal_43 : decode cX5_formal 43 = .ok (.aload_n 0, 1) := by decide +kernel
set_option maxRecDepth 100000 in
theorem dX5_formal_44 : decode cX5_formal 44 = .ok (.getfield 73, 3) := by decide +kernel
set_option maxRecDepth 100000 in
theorem dX5_formal_47 : decode cX5_formal 47 = .ok (.astore 4, 2) := by decide +kernel
set_option maxRecDepth 100000 in
theorem dX5_formal_49 : decode cX5_formal 49 = .ok (.aload_n 3, 1) := by decide +kernel
set_option maxRecDepth 100000 in
theorem dX5_formal_50 : decode cX5_formal 50 = .ok (.new 116, 3) := by decide +kernel
set_option maxRecDepth 100000 in
theorem dX5_formal_53 : decode cX5_formal 53 = .ok (.dup, 1) := by decide +kernel
set_option maxRecDepth 100000 in
theorem dX5_formal_54 : decode cX5_formal 54 = .ok (.aload_n 0, 1) := by decide +kernel
set_option maxRecDepth 100000 in
theorem dX5_formal_55 : decode cX5_formal 55 = .ok (.getfield 73, 3) := by decide +kernel
set_option maxRecDepth 100000 in
theorem dX5_formal_58 : decode cX5_formal 58 = .ok (.invokespecial 127, 3) := by decide +kernel
set_option maxRecDepth 100000 in
theorem dX5_formal_61 : decode cX5_formal 61 = .ok (.putfield 415, 3) := by decide +kernel
set_option maxRecDepth 100000 in
theorem dX5_formal_64 : decode cX5_formal 64 = .ok (.aload_n 0, 1) := by decide +kernel
set_option maxRecDepth 100000 in
theorem dX5_formal_65 : decode cX5_formal 65 = .ok (.aload_n 3, 1) := by decide +kernel
set_option maxRecDepth 100000 in
theorem dX5_formal_66 : decode cX5_formal 66 = .ok (.getfield 415, 3) := by decide +kernel
set_option maxRecDepth 100000 in
theorem dX5_formal_69 : decode cX5_formal 69 = .ok (.putfield 73, 3) := by decide +kernel
set_option maxRecDepth 100000 in
theorem dX5_formal_72 : decode cX5_formal 72 = .ok (.aload_n 0, 1) := by decide +kernel
set_option maxRecDepth 100000 in
theorem dX5_formal_73 : decode cX5_formal 73 = .ok (.aload_n 1, 1) := by decide +kernel
set_option maxRecDepth 100000 in
theorem dX5_formal_74 : decode cX5_formal 74 = .ok (.getfield 251, 3) := by decide +kernel
set_option maxRecDepth 100000 in
theorem dX5_formal_77 : decode cX5_formal 77 = .ok (.aload_n 3, 1) := by decide +kernel
set_option maxRecDepth 100000 in
theorem dX5_formal_78 : decode cX5_formal 78 = .ok (.invokevirtual 532, 3) := by decide +kernel
set_option maxRecDepth 100000 in
theorem dX5_formal_81 : decode cX5_formal 81 = .ok (.aload_n 3, 1) := by decide +kernel
set_option maxRecDepth 100000 in
theorem dX5_formal_82 : decode cX5_formal 82 = .ok (.getfield 525, 3) := by decide +kernel
set_option maxRecDepth 100000 in
theorem dX5_formal_85 : decode cX5_formal 85 = .ok (.ifCond .eq 16, 3) := by decide +kernel
set_option maxRecDepth 100000 in
theorem dX5_formal_88 : decode cX5_formal 88 = .ok (.aload_n 3, 1) := by decide +kernel
set_option maxRecDepth 100000 in
theorem dX5_formal_89 : decode cX5_formal 89 = .ok (.aload_n 0, 1) := by decide +kernel
set_option maxRecDepth 100000 in
theorem dX5_formal_90 : decode cX5_formal 90 = .ok (.aload_n 1, 1) := by decide +kernel
set_option maxRecDepth 100000 in
theorem dX5_formal_91 : decode cX5_formal 91 = .ok (.iconst 1, 1) := by decide +kernel
set_option maxRecDepth 100000 in
theorem dX5_formal_92 : decode cX5_formal 92 = .ok (.invokevirtual 310, 3) := by decide +kernel
set_option maxRecDepth 100000 in
theorem dX5_formal_95 : decode cX5_formal 95 = .ok (.invokevirtual 535, 3) := by decide +kernel
set_option maxRecDepth 100000 in
theorem dX5_formal_98 : decode cX5_formal 98 = .ok (.putfield 538, 3) := by decide +kernel
set_option maxRecDepth 100000 in
theorem dX5_formal_101 : decode cX5_formal 101 = .ok (.aload_n 0, 1) := by decide +kernel
set_option maxRecDepth 100000 in
theorem dX5_formal_102 : decode cX5_formal 102 = .ok (.aload 4, 2) := by decide +kernel
set_option maxRecDepth 100000 in
theorem dX5_formal_104 : decode cX5_formal 104 = .ok (.putfield 73, 3) := by decide +kernel
set_option maxRecDepth 100000 in
theorem dX5_formal_107 : decode cX5_formal 107 = .ok (.new 103, 3) := by decide +kernel
set_option maxRecDepth 100000 in
theorem dX5_formal_110 : decode cX5_formal 110 = .ok (.dup, 1) := by decide +kernel
set_option maxRecDepth 100000 in
theorem dX5_formal_111 : decode cX5_formal 111 = .ok (.iconst 3, 1) := by decide +kernel
set_option maxRecDepth 100000 in
theorem dX5_formal_112 : decode cX5_formal 112 = .ok (.aload_n 1, 1) := by decide +kernel
set_option maxRecDepth 100000 in
theorem dX5_formal_113 : decode cX5_formal 113 = .ok (.invokevirtual 173, 3) := by decide +kernel
set_option maxRecDepth 100000 in
theorem dX5_formal_116 : decode cX5_formal 116 = .ok (.aconst_null, 1) := by decide +kernel
set_option maxRecDepth 100000 in
theorem dX5_formal_117 : decode cX5_formal 117 = .ok (.invokespecial 109, 3) := by decide +kernel
set_option maxRecDepth 100000 in
theorem dX5_formal_120 : decode cX5_formal 120 = .ok (.astore 5, 2) := by decide +kernel
set_option maxRecDepth 100000 in
theorem dX5_formal_122 : decode cX5_formal 122 = .ok (.aload 5, 2) := by decide +kernel
set_option maxRecDepth 100000 in
theorem dX5_formal_124 : decode cX5_formal 124 = .ok (.aload_n 3, 1) := by decide +kernel
set_option maxRecDepth 100000 in
theorem dX5_formal_125 : decode cX5_formal 125 = .ok (.putfield 492, 3) := by decide +kernel
set_option maxRecDepth 100000 in
theorem dX5_formal_128 : decode cX5_formal 128 = .ok (.aload_n 3, 1) := by decide +kernel
set_option maxRecDepth 100000 in
theorem dX5_formal_129 : decode cX5_formal 129 = .ok (.aload_n 2, 1) := by decide +kernel
set_option maxRecDepth 100000 in
theorem dX5_formal_130 : decode cX5_formal 130 = .ok (.getfield 451, 3) := by decide +kernel
set_option maxRecDepth 100000 in
theorem dX5_formal_133 : decode cX5_formal 133 = .ok (.putfield 567, 3) := by decide +kernel
set_option maxRecDepth 100000 in
theorem dX5_formal_136 : decode cX5_formal 136 = .ok (.aload_n 3, 1) := by decide +kernel
set_option maxRecDepth 100000 in
theorem dX5_formal_137 : decode cX5_formal 137 = .ok (.aload_n 2, 1) := by decide +kernel
set_option maxRecDepth 100000 in
theorem dX5_formal_138 : decode cX5_formal 138 = .ok (.getfield 447, 3) := by decide +kernel
set_option maxRecDepth 100000 in
theorem dX5_formal_141 : decode cX5_formal 141 = .ok (.putfield 568, 3) := by decide +kernel
set_option maxRecDepth 100000 in
theorem dX5_formal_144 : decode cX5_formal 144 = .ok (.aload_n 0, 1) := by decide +kernel
set_option maxRecDepth 100000 in
theorem dX5_formal_145 : decode cX5_formal 145 = .ok (.aload_n 2, 1) := by decide +kernel
set_option maxRecDepth 100000 in
theorem dX5_formal_146 : decode cX5_formal 146 = .ok (.new 548, 3) := by decide +kernel
set_option maxRecDepth 100000 in
theorem dX5_formal_149 : decode cX5_formal 149 = .ok (.dup, 1) := by decide +kernel
set_option maxRecDepth 100000 in
theorem dX5_formal_150 : decode cX5_formal 150 = .ok (.iconst 2, 1) := by decide +kernel
set_option maxRecDepth 100000 in
theorem dX5_formal_151 : decode cX5_formal 151 = .ok (.aconst_null, 1) := by decide +kernel
set_option maxRecDepth 100000 in
theorem dX5_formal_152 : decode cX5_formal 152 = .ok (.aload_n 3, 1) := by decide +kernel
set_option maxRecDepth 100000 in
theorem dX5_formal_153 : decode cX5_formal 153 = .ok (.invokespecial 550, 3) := by decide +kernel
set_option maxRecDepth 100000 in
theorem dX5_formal_156 : decode cX5_formal 156 = .ok (.aload 5, 2) := by decide +kernel
set_option maxRecDepth 100000 in
theorem dX5_formal_158 : decode cX5_formal 158 = .ok (.aload_n 1, 1) := by decide +kernel
set_option maxRecDepth 100000 in
theorem dX5_formal_159 : decode cX5_formal 159 = .ok (.iconst 1, 1) := by decide +kernel
set_option maxRecDepth 100000 in
theorem dX5_formal_160 : decode cX5_formal 160 = .ok (.invokevirtual 556, 3) := by decide +kernel
set_option maxRecDepth 100000 in
theorem dX5_formal_163 : decode cX5_formal 163 = .ok (.return_, 1) := by decide +kernel
set_option maxRecDepth 100000 in
def bX5_formal_101 (G : xG) (fr lo : Nat) (x0 : Nat) (x1 : Nat) (x2 : Nat) (x3 : Nat) (x4 : Nat) (h : xH) (Q : Outcome → xH → Prop) : Prop := tg h x0 = 6 ∧ (∀ h2 : xH, h2 = sR h x0 1293 x4 → nx h2 + 1 ≤ xGN G ∧ us h2 + 12 ≤ xGU G ∧ (∀ (a6 : Nat) (h7 : xH), a6 = nx h2 + 1 → h7 = nO h2 9 12 → xfresh h2 a6 → tg h7 x1 = 16 ∧ 1 ≤ fr ∧ 15 ≤ lo ∧ xRr G YX15_text (fr - 1) (lo - 15) [rv x1] h7 (fun x16 h15 => xext h7 h15 → 1 ≤ fr ∧ 16 ≤ lo ∧ xRv G YX8_init (fr - 1) (lo - 16) [rv a6, .int 3, rv x16, rv 0] h15 (fun h21 => xext h15 h21 → (∀ h25 : xH, h25 = sR h21 a6 2059 x3 → tg h25 x2 = 17 ∧ tg h25 x3 = 17 ∧ (∀ h29 : xH, h29 = sI h25 x3 4106 (fI h25 x2 4104) → (∀ h33 : xH, h33 = sI h29 x3 4107 (fI h29 x2 4102) → nx h33 + 1 ≤ xGN G ∧ us h33 + 5 ≤ xGU G ∧ (∀ (a37 : Nat) (h38 : xH), a37 = nx h33 + 1 → h38 = nO h33 22 5 → xfresh h33 a37 → 1 ≤ fr ∧ 18 ≤ lo ∧ xRv G YX21_init (fr - 1) (lo - 18) [rv a37, .int 2, rv 0, rv x3] h38 (fun h45 => xext h38 h45 → 1 ≤ fr ∧ 17 ≤ lo ∧ xRv G YX5_parameter (fr - 1) (lo - 17) [rv x0, rv x2, rv a37, rv a6, rv x1, .int 1] h45 (fun h59 => xext h45 h59 → Q (.returned none) h59) (fun r h2 => Q (.threw r) h2)) (fun r h2 => Q (.threw r) h2)))))) (fun r h2 => Q (.threw r) h2)) (fun r h2 => Q (.threw r) h2)))
set_option maxRecDepth 100000 in
theorem uX5_formal_101 {G : xG} {fr lo : Nat} {x0 : Nat} {x1 : Nat} {x2 : Nat} {x3 : Nat} {x4 : Nat} {h : xH} {Q : Outcome → xH → Prop} (hq : bX5_formal_101 G fr lo x0 x1 x2 x3 x4 h Q) : xP G YX5_formal fr lo 101 [(0, rv x0), (1, rv x1), (2, rv x2), (3, rv x3), (4, rv x4)] [] h Q := by
  unfold bX5_formal_101 at hq
  refine x_aload_n 0 dX5_formal_101 rfl ?_
  refine x_aload 4 dX5_formal_102 rfl ?_
  obtain ⟨g1, hq⟩ := hq
  obtain ⟨h2, e3⟩ : ∃ y, y = sR h x0 1293 x4 := ⟨_, rfl⟩
  replace hq := hq h2 e3
  refine x_putR fdX5_73 xty_O dX5_formal_104 g1 (Or.inl (by rw [g1]; rfl)) rfl e3 ?_
  obtain ⟨g4, g5, hq⟩ := hq
  obtain ⟨a6, e8⟩ : ∃ y, y = nx h2 + 1 := ⟨_, rfl⟩
  obtain ⟨h7, e9⟩ : ∃ y, y = nO h2 9 12 := ⟨_, rfl⟩
  refine x_new' cdX5_103 dX5_formal_107 g4 g5 e8 e9 (fun f10 => ?_)
  replace hq := hq a6 h7 e8 e9 f10
  have t11 : tg h7 a6 = 9 := by rw [e9, e8]; exact tg_nO
  refine x_dup dX5_formal_110 (rv_cat _) ?_
  refine x_iconst (v := 3) dX5_formal_111 (by decide) ?_
  refine x_aload_n 1 dX5_formal_112 rfl ?_
  obtain ⟨g12, hq⟩ := hq
  obtain ⟨g13, g14, hq⟩ := hq
  refine x_callV (Yc := YX15_text) (as := []) (st := [.int 3, rv a6, rv a6]) q2009 mvX15_text g12 rfl dX5_formal_113 (xle (xal1 (rv_cat _) xal0) (by decide)) (xfr g13) (xlo (xsw1 rfl (xsw1 (rv_cat _) (xsw1 (rv_cat _) xsw0))) (by decide) g14) (xKr hq (fun x16 h15 hq e17 => ?_) (fun _ _ q _ => q))
  replace hq := hq e17
  refine x_null dX5_formal_116 ?_
  have t18 : tg h15 a6 = 9 := e17.tg t11 (by decide)
  obtain ⟨g19, g20, hq⟩ := hq
  refine x_callI (Yc := YX8_init) (as := [.int 3, rv x16, rv 0]) (st := [rv a6]) q961 miX8_init (by rw [t18]; decide) rfl dX5_formal_117 (xle (xal1 (rv_cat _) (xal1 rfl (xal1 (rv_cat _) (xal1 (rv_cat _) xal0)))) (by decide)) (xfr g19) (xlo (xsw1 (rv_cat _) xsw0) (by decide) g20) (xKv hq (fun h21 hq e23 => ?_) (fun _ _ q _ => q))
  replace hq := hq e23
  refine x_astore (lv' := [(5, rv a6), (0, rv x0), (1, rv x1), (2, rv x2), (3, rv x3), (4, rv x4)]) dX5_formal_120 (by decide) (by first | rfl | (simp [rv_cat, Value.category]; done) | (simp [rv_cat, Value.category]; decide)) ?_
  refine x_aload 0 dX5_formal_122 rfl ?_
  refine x_aload_n 4 dX5_formal_124 rfl ?_
  have t24 : tg h21 a6 = 9 := e23.tg t18 (by decide)
  obtain ⟨h25, e26⟩ : ∃ y, y = sR h21 a6 2059 x3 := ⟨_, rfl⟩
  replace hq := hq h25 e26
  refine x_putNR gfX5_492 xty_O dX5_formal_125 t24 (Or.inl (by rw [t24]; rfl)) rfl e26 ?_
  refine x_aload_n 4 dX5_formal_128 rfl ?_
  refine x_aload_n 3 dX5_formal_129 rfl ?_
  obtain ⟨g27, hq⟩ := hq
  refine x_getN (v := .int (fI h25 x2 4104)) gfX5_451 dX5_formal_130 g27 rfl ?_
  obtain ⟨g28, hq⟩ := hq
  obtain ⟨h29, e30⟩ : ∃ y, y = sI h25 x3 4106 (fI h25 x2 4104) := ⟨_, rfl⟩
  replace hq := hq h29 e30
  refine x_putNI gfX5_567 xty_I1 dX5_formal_133 g28 (Or.inl (by rw [g28]; rfl)) xnI rfl e30 ?_
  refine x_aload_n 4 dX5_formal_136 rfl ?_
  refine x_aload_n 3 dX5_formal_137 rfl ?_
  have t31 : tg h29 x2 = 17 := by rw [e30]; exact g27
  refine x_getN (v := .int (fI h29 x2 4102)) gfX5_447 dX5_formal_138 t31 rfl ?_
  have t32 : tg h29 x3 = 17 := by rw [e30]; exact g28
  obtain ⟨h33, e34⟩ : ∃ y, y = sI h29 x3 4107 (fI h29 x2 4102) := ⟨_, rfl⟩
  replace hq := hq h33 e34
  refine x_putNI gfX5_568 xty_I1 dX5_formal_141 t32 (Or.inl (by rw [t32]; rfl)) xnI rfl e34 ?_
  refine x_aload_n 1 dX5_formal_144 rfl ?_
  refine x_aload_n 3 dX5_formal_145 rfl ?_
  obtain ⟨g35, g36, hq⟩ := hq
  obtain ⟨a37, e39⟩ : ∃ y, y = nx h33 + 1 := ⟨_, rfl⟩
  obtain ⟨h38, e40⟩ : ∃ y, y = nO h33 22 5 := ⟨_, rfl⟩
  refine x_new' cdX5_548 dX5_formal_146 g35 g36 e39 e40 (fun f41 => ?_)
  replace hq := hq a37 h38 e39 e40 f41
  have t42 : tg h38 a37 = 22 := by rw [e40, e39]; exact tg_nO
  refine x_dup dX5_formal_149 (rv_cat _) ?_
  refine x_iconst (v := 2) dX5_formal_150 (by decide) ?_
  refine x_null dX5_formal_151 ?_
  refine x_aload_n 4 dX5_formal_152 rfl ?_
  obtain ⟨g43, g44, hq⟩ := hq
  refine x_callI (Yc := YX21_init) (as := [.int 2, rv 0, rv x3]) (st := [rv a37, rv x2, rv x0]) q2457 miX21_init (by rw [t42]; decide) rfl dX5_formal_153 (xle (xal1 (rv_cat _) (xal1 rfl (xal1 (rv_cat _) (xal1 (rv_cat _) xal0)))) (by decide)) (xfr g43) (xlo (xsw1 (rv_cat _) (xsw1 (rv_cat _) (xsw1 (rv_cat _) xsw0))) (by decide) g44) (xKv hq (fun h45 hq e47 => ?_) (fun _ _ q _ => q))
  replace hq := hq e47
  refine x_aload 0 dX5_formal_156 rfl ?_
  refine x_aload_n 2 dX5_formal_158 rfl ?_
  refine x_iconst (v := 1) dX5_formal_159 (by decide) ?_
  have t48 : tg h2 x0 = 6 := by rw [e3]; exact g1
  have t49 : tg h7 x0 = 6 := by rw [e9]; exact tg_nO_ne e8 f10 t48 (by decide)
  have t50 : tg h15 x0 = 6 := e17.tg t49 (by decide)
  have t51 : tg h21 x0 = 6 := e23.tg t50 (by decide)
  have t52 : tg h25 x0 = 6 := by rw [e26]; exact t51
  have t53 : tg h29 x0 = 6 := by rw [e30]; exact t52
  have t54 : tg h33 x0 = 6 := by rw [e34]; exact t53
  have t55 : tg h38 x0 = 6 := by rw [e40]; exact tg_nO_ne e39 f41 t54 (by decide)
  have t56 : tg h45 x0 = 6 := e47.tg t55 (by decide)
  obtain ⟨g57, g58, hq⟩ := hq
  refine x_callV (Yc := YX5_parameter) (as := [rv x2, rv a37, rv a6, rv x1, .int 1]) (st := []) q2486 mvX5_parameter t56 rfl dX5_formal_160 (xle (xal1 (rv_cat _) (xal1 (rv_cat _) (xal1 (rv_cat _) (xal1 (rv_cat _) (xal1 (rv_cat _) (xal1 rfl xal0)))))) (by decide)) (xfr g57) (xlo xsw0 (by decide) g58) (xKv hq (fun h59 hq e61 => ?_) (fun _ _ q _ => q))
  replace hq := hq e61
  exact x_vret rfl dX5_formal_163 hq
set_option maxRecDepth 100000 in
def bX5_formal_22 (G : xG) (fr lo : Nat) (x0 : Nat) (x1 : Nat) (x2 : Nat) (s0 : Int32) (s1 : Nat) (s2 : Nat) (s3 : Nat) (h : xH) (Q : Outcome → xH → Prop) : Prop := tg h x1 = 16 ∧ 1 ≤ fr ∧ 16 ≤ lo ∧ xRi G YX15_place (fr - 1) (lo - 16) [rv x1] h (fun x5 h4 => xext h h4 → tg h4 s2 = 17 ∧ 1 ≤ fr ∧ 16 ≤ lo ∧ xRv G YX16_init (fr - 1) (lo - 16) [rv s2, rv s1, .int s0, .int x5] h4 (fun h10 => xext h4 h10 → tg h10 s3 = 17 ∧ (∀ h14 : xH, h14 = sI h10 s3 4108 1 → tg h14 x2 = 17 ∧ (∀ h18 : xH, h18 = sI h14 s3 4102 (fI h14 x2 4102) → tg h18 x0 = 6 ∧ nx h18 + 1 ≤ xGN G ∧ us h18 + 4 ≤ xGU G ∧ (∀ (a23 : Nat) (h24 : xH), a23 = nx h18 + 1 → h24 = nO h18 8 4 → xfresh h18 a23 → 1 ≤ fr ∧ 15 ≤ lo ∧ xRv G YX7_init (fr - 1) (lo - 15) [rv a23, rv (fR h24 x0 1293)] h24 (fun h32 => xext h24 h32 → (∀ h38 : xH, h38 = sR h32 s3 4101 a23 → (∀ h43 : xH, h43 = sR h38 x0 1293 (fR h38 s3 4101) → 1 ≤ fr ∧ 19 ≤ lo ∧ xRv G YX5_parameters (fr - 1) (lo - 19) [rv x0, rv (fR h43 x1 3842), rv s3] h43 (fun h56 => xext h43 h56 → (((fI h56 s3 4097) = 0 → bX5_formal_101 G fr lo x0 x1 x2 s3 (fR h18 x0 1293) h56 Q) ∧ (¬ (fI h56 s3 4097) = 0 → 1 ≤ fr ∧ 17 ≤ lo ∧ xRr G YX15_kid (fr - 1) (lo - 17) [rv x1, .int 1] h56 (fun x66 h65 => xext h56 h65 → 1 ≤ fr ∧ 15 ≤ lo ∧ xRr G YX5_result (fr - 1) (lo - 15) [rv x0, rv x66] h65 (fun x73 h72 => xext h65 h72 → (∀ h77 : xH, h77 = sR h72 s3 4100 x73 → bX5_formal_101 G fr lo x0 x1 x2 s3 (fR h18 x0 1293) h77 Q)) (fun r h2 => Q (.threw r) h2)) (fun r h2 => Q (.threw r) h2)))) (fun r h2 => Q (.threw r) h2)))) (fun r h2 => Q (.threw r) h2))))) (fun r h2 => Q (.threw r) h2)) (fun r h2 => Q (.threw r) h2)
set_option maxRecDepth 100000 in
theorem uX5_formal_22 {G : xG} {fr lo : Nat} {x0 : Nat} {x1 : Nat} {x2 : Nat} {s0 : Int32} {s1 : Nat} {s2 : Nat} {s3 : Nat} {h : xH} {Q : Outcome → xH → Prop} (hq : bX5_formal_22 G fr lo x0 x1 x2 s0 s1 s2 s3 h Q) : xP G YX5_formal fr lo 22 [(0, rv x0), (1, rv x1), (2, rv x2)] [.int s0, rv s1, rv s2, rv s3] h Q := by
  unfold bX5_formal_22 at hq
  refine x_aload_n 1 dX5_formal_22 rfl ?_
  obtain ⟨g1, hq⟩ := hq
  obtain ⟨g2, g3, hq⟩ := hq
  refine x_callV (Yc := YX15_place) (as := []) (st := [.int s0, rv s1, rv s2, rv s3]) q2013 mvX15_place g1 rfl dX5_formal_23 (xle (xal1 (rv_cat _) xal0) (by decide)) (xfr g2) (xlo (xsw1 rfl (xsw1 (rv_cat _) (xsw1 (rv_cat _) (xsw1 (rv_cat _) xsw0)))) (by decide) g3) (xKi hq (fun x5 h4 hq e6 => ?_) (fun _ _ q _ => q))
  replace hq := hq e6
  obtain ⟨g7, hq⟩ := hq
  obtain ⟨g8, g9, hq⟩ := hq
  refine x_callI (Yc := YX16_init) (as := [rv s1, .int s0, .int x5]) (st := [rv s3]) q2017 miX16_init (by rw [g7]; decide) rfl dX5_formal_26 (xle (xal1 (rv_cat _) (xal1 (rv_cat _) (xal1 rfl (xal1 rfl xal0)))) (by decide)) (xfr g8) (xlo (xsw1 (rv_cat _) xsw0) (by decide) g9) (xKv hq (fun h10 hq e12 => ?_) (fun _ _ q _ => q))
  replace hq := hq e12
  refine x_astore_n (lv' := [(3, rv s3), (0, rv x0), (1, rv x1), (2, rv x2)]) dX5_formal_29 (by decide) (by first | rfl | (simp [rv_cat, Value.category]; done) | (simp [rv_cat, Value.category]; decide)) ?_
  refine x_aload_n 0 dX5_formal_30 rfl ?_
  refine x_iconst (v := 1) dX5_formal_31 (by decide) ?_
  obtain ⟨g13, hq⟩ := hq
  obtain ⟨h14, e15⟩ : ∃ y, y = sI h10 s3 4108 1 := ⟨_, rfl⟩
  replace hq := hq h14 e15
  refine x_putNI gfX5_522 xty_Z1 dX5_formal_32 g13 (Or.inl (by rw [g13]; rfl)) (xnB (Or.inr rfl)) rfl e15 ?_
  refine x_aload_n 0 dX5_formal_35 rfl ?_
  refine x_aload_n 3 dX5_formal_36 rfl ?_
  obtain ⟨g16, hq⟩ := hq
  refine x_getN (v := .int (fI h14 x2 4102)) gfX5_447 dX5_formal_37 g16 rfl ?_
  have t17 : tg h14 s3 = 17 := by rw [e15]; exact g13
  obtain ⟨h18, e19⟩ : ∃ y, y = sI h14 s3 4102 (fI h14 x2 4102) := ⟨_, rfl⟩
  replace hq := hq h18 e19
  refine x_putNI gfX5_447 xty_I1 dX5_formal_40 t17 (Or.inl (by rw [t17]; rfl)) xnI rfl e19 ?_
  refine x_aload_n 1 dX5_formal_43 rfl ?_
  obtain ⟨g20, hq⟩ := hq
  refine x_get (v := rv (fR h18 x0 1293)) fdX5_73 dX5_formal_44 g20 rfl ?_
  refine x_astore (lv' := [(4, rv (fR h18 x0 1293)), (3, rv s3), (0, rv x0), (1, rv x1), (2, rv x2)]) dX5_formal_47 (by decide) (by first | rfl | (simp [rv_cat, Value.category]; done) | (simp [rv_cat, Value.category]; decide)) ?_
  refine x_aload_n 1 dX5_formal_49 rfl ?_
  obtain ⟨g21, g22, hq⟩ := hq
  obtain ⟨a23, e25⟩ : ∃ y, y = nx h18 + 1 := ⟨_, rfl⟩
  obtain ⟨h24, e26⟩ : ∃ y, y = nO h18 8 4 := ⟨_, rfl⟩
  refine x_new' cdX5_116 dX5_formal_50 g21 g22 e25 e26 (fun f27 => ?_)
  replace hq := hq a23 h24 e25 e26 f27
  have t28 : tg h24 a23 = 8 := by rw [e26, e25]; exact tg_nO
  refine x_dup dX5_formal_53 (rv_cat _) ?_
  refine x_aload_n 2 dX5_formal_54 rfl ?_
  have t29 : tg h24 x0 = 6 := by rw [e26]; exact tg_nO_ne e25 f27 g20 (by decide)
  refine x_get (v := rv (fR h24 x0 1293)) fdX5_73 dX5_formal_55 t29 rfl ?_
  obtain ⟨g30, g31, hq⟩ := hq
  refine x_callI (Yc := YX7_init) (as := [rv (fR h24 x0 1293)]) (st := [rv a23, rv s3]) q752 miX7_init (by rw [t28]; decide) rfl dX5_formal_58 (xle (xal1 (rv_cat _) (xal1 (rv_cat _) xal0)) (by decide)) (xfr g30) (xlo (xsw1 (rv_cat _) (xsw1 (rv_cat _) xsw0)) (by decide) g31) (xKv hq (fun h32 hq e34 => ?_) (fun _ _ q _ => q))
  replace hq := hq e34
  have t35 : tg h18 s3 = 17 := by rw [e19]; exact t17
  have t36 : tg h24 s3 = 17 := by rw [e26]; exact tg_nO_ne e25 f27 t35 (by decide)
  have t37 : tg h32 s3 = 17 := e34.tg t36 (by decide)
  obtain ⟨h38, e39⟩ : ∃ y, y = sR h32 s3 4101 a23 := ⟨_, rfl⟩
  replace hq := hq h38 e39
  refine x_putNR gfX5_415 xty_O dX5_formal_61 t37 (Or.inl (by rw [t37]; rfl)) rfl e39 ?_
  refine x_aload_n 2 dX5_formal_64 rfl ?_
  refine x_aload_n 1 dX5_formal_65 rfl ?_
  have t40 : tg h38 s3 = 17 := by rw [e39]; exact t37
  refine x_getN (v := rv (fR h38 s3 4101)) gfX5_415 dX5_formal_66 t40 rfl ?_
  have t41 : tg h32 x0 = 6 := e34.tg t29 (by decide)
  have t42 : tg h38 x0 = 6 := by rw [e39]; exact t41
  obtain ⟨h43, e44⟩ : ∃ y, y = sR h38 x0 1293 (fR h38 s3 4101) := ⟨_, rfl⟩
  replace hq := hq h43 e44
  refine x_putR fdX5_73 xty_O dX5_formal_69 t42 (Or.inl (by rw [t42]; rfl)) rfl e44 ?_
  refine x_aload_n 2 dX5_formal_72 rfl ?_
  refine x_aload_n 3 dX5_formal_73 rfl ?_
  have t45 : tg h4 x1 = 16 := e6.tg g1 (by decide)
  have t46 : tg h10 x1 = 16 := e12.tg t45 (by decide)
  have t47 : tg h14 x1 = 16 := by rw [e15]; exact t46
  have t48 : tg h18 x1 = 16 := by rw [e19]; exact t47
  have t49 : tg h24 x1 = 16 := by rw [e26]; exact tg_nO_ne e25 f27 t48 (by decide)
  have t50 : tg h32 x1 = 16 := e34.tg t49 (by decide)
  have t51 : tg h38 x1 = 16 := by rw [e39]; exact t50
  have t52 : tg h43 x1 = 16 := by rw [e44]; exact t51
  refine x_getN (v := rv (fR h43 x1 3842)) gfX5_251 dX5_formal_74 t52 rfl ?_
  refine x_aload_n 1 dX5_formal_77 rfl ?_
  have t53 : tg h43 x0 = 6 := by rw [e44]; exact t42
  obtain ⟨g54, g55, hq⟩ := hq
  refine x_callV (Yc := YX5_parameters) (as := [rv (fR h43 x1 3842), rv s3]) (st := []) q2439 mvX5_parameters t53 rfl dX5_formal_78 (xle (xal1 (rv_cat _) (xal1 (rv_cat _) (xal1 (rv_cat _) xal0))) (by decide)) (xfr g54) (xlo xsw0 (by decide) g55) (xKv hq (fun h56 hq e58 => ?_) (fun _ _ q _ => q))
  replace hq := hq e58
  refine x_aload_n 1 dX5_formal_81 rfl ?_
  have t59 : tg h43 s3 = 17 := by rw [e44]; exact t40
  have t60 : tg h56 s3 = 17 := e58.tg t59 (by decide)
  refine x_getN (v := .int (fI h56 s3 4097)) gfX5_525 dX5_formal_82 t60 rfl ?_
  refine x_if_eq (tgt := 101) dX5_formal_85 (by decide) (fun c61 => ?_) (fun c61 => ?_)
  · replace hq := hq.1 c61
    refine xP.pick (lv' := [(0, rv x0), (1, rv x1), (2, rv x2), (3, rv s3), (4, rv (fR h18 x0 1293))]) [2, 3, 4, 1, 0] rfl ?_
    exact uX5_formal_101 hq
  · replace hq := hq.2 c61
    refine x_aload_n 1 dX5_formal_88 rfl ?_
    refine x_aload_n 2 dX5_formal_89 rfl ?_
    refine x_aload_n 3 dX5_formal_90 rfl ?_
    refine x_iconst (v := 1) dX5_formal_91 (by decide) ?_
    have t62 : tg h56 x1 = 16 := e58.tg t52 (by decide)
    obtain ⟨g63, g64, hq⟩ := hq
    refine x_callV (Yc := YX15_kid) (as := [.int 1]) (st := [rv x0, rv s3]) q2129 mvX15_kid t62 rfl dX5_formal_92 (xle (xal1 (rv_cat _) (xal1 rfl xal0)) (by decide)) (xfr g63) (xlo (xsw1 (rv_cat _) (xsw1 (rv_cat _) xsw0)) (by decide) g64) (xKr hq (fun x66 h65 hq e67 => ?_) (fun _ _ q _ => q))
    replace hq := hq e67
    have t68 : tg h56 x0 = 6 := e58.tg t53 (by decide)
    have t69 : tg h65 x0 = 6 := e67.tg t68 (by decide)
    obtain ⟨g70, g71, hq⟩ := hq
    refine x_callV (Yc := YX5_result) (as := [rv x66]) (st := [rv s3]) q2447 mvX5_result t69 rfl dX5_formal_95 (xle (xal1 (rv_cat _) (xal1 (rv_cat _) xal0)) (by decide)) (xfr g70) (xlo (xsw1 (rv_cat _) xsw0) (by decide) g71) (xKr hq (fun x73 h72 hq e74 => ?_) (fun _ _ q _ => q))
    replace hq := hq e74
    have t75 : tg h65 s3 = 17 := e67.tg t60 (by decide)
    have t76 : tg h72 s3 = 17 := e74.tg t75 (by decide)
    obtain ⟨h77, e78⟩ : ∃ y, y = sR h72 s3 4100 x73 := ⟨_, rfl⟩
    replace hq := hq h77 e78
    refine x_putNR gfX5_538 xty_O dX5_formal_98 t76 (Or.inl (by rw [t76]; rfl)) rfl e78 ?_
    refine xP.pick (lv' := [(0, rv x0), (1, rv x1), (2, rv x2), (3, rv s3), (4, rv (fR h18 x0 1293))]) [2, 3, 4, 1, 0] rfl ?_
    exact uX5_formal_101 hq
set_option maxRecDepth 100000 in
def bX5_formal (G : xG) (fr lo : Nat) (x0 : Nat) (x1 : Nat) (x2 : Nat) (h : xH) (Q : Outcome → xH → Prop) : Prop := nx h + 1 ≤ xGN G ∧ us h + 16 ≤ xGU G ∧ (∀ (a3 : Nat) (h4 : xH), a3 = nx h + 1 → h4 = nO h 17 16 → xfresh h a3 → tg h4 x1 = 16 ∧ 1 ≤ fr ∧ 14 ≤ lo ∧ xRr G YX15_text (fr - 1) (lo - 14) [rv x1] h4 (fun x13 h12 => xext h4 h12 → ((¬ (fI h12 x1 3840) = 21 → bX5_formal_22 G fr lo x0 x1 x2 0 x13 a3 a3 h12 Q) ∧ ((fI h12 x1 3840) = 21 → bX5_formal_22 G fr lo x0 x1 x2 1 x13 a3 a3 h12 Q))) (fun r h2 => Q (.threw r) h2))
set_option maxRecDepth 100000 in
theorem uX5_formal {G : xG} {fr lo : Nat} {x0 : Nat} {x1 : Nat} {x2 : Nat} {h : xH} {Q : Outcome → xH → Prop} (hq : bX5_formal G fr lo x0 x1 x2 h Q) : xP G YX5_formal fr lo 0 [(0, rv x0), (1, rv x1), (2, rv x2)] [] h Q := by
  unfold bX5_formal at hq
  obtain ⟨g1, g2, hq⟩ := hq
  obtain ⟨a3, e5⟩ : ∃ y, y = nx h + 1 := ⟨_, rfl⟩
  obtain ⟨h4, e6⟩ : ∃ y, y = nO h 17 16 := ⟨_, rfl⟩
  refine x_new' cdX5_406 dX5_formal_0 g1 g2 e5 e6 (fun f7 => ?_)
  replace hq := hq a3 h4 e5 e6 f7
  have t8 : tg h4 a3 = 17 := by rw [e6, e5]; exact tg_nO
  refine x_dup dX5_formal_3 (rv_cat _) ?_
  refine x_aload_n 1 dX5_formal_4 rfl ?_
  obtain ⟨g9, hq⟩ := hq
  obtain ⟨g10, g11, hq⟩ := hq
  refine x_callV (Yc := YX15_text) (as := []) (st := [rv a3, rv a3]) q2009 mvX15_text g9 rfl dX5_formal_5 (xle (xal1 (rv_cat _) xal0) (by decide)) (xfr g10) (xlo (xsw1 (rv_cat _) (xsw1 (rv_cat _) xsw0)) (by decide) g11) (xKr hq (fun x13 h12 hq e14 => ?_) (fun _ _ q _ => q))
  replace hq := hq e14
  refine x_aload_n 1 dX5_formal_8 rfl ?_
  have t15 : tg h12 x1 = 16 := e14.tg g9 (by decide)
  refine x_getN (v := .int (fI h12 x1 3840)) gfX5_264 dX5_formal_9 t15 rfl ?_
  refine x_bipush (v := 21) dX5_formal_12 (by decide) ?_
  refine x_icmp_ne (tgt := 21) dX5_formal_14 (by decide) (fun c16 => ?_) (fun c16 => ?_)
  · replace hq := hq.1 c16
    refine x_iconst (v := 0) dX5_formal_21 (by decide) ?_
    exact uX5_formal_22 hq
  · replace hq := hq.2 c16
    refine x_iconst (v := 1) dX5_formal_17 (by decide) ?_
    refine x_goto (tgt := 22) dX5_formal_18 (by decide) ?_
    exact uX5_formal_22 hq
theorem rX5_formal {G : xG} {fr lo : Nat} {x0 : Nat} {x1 : Nat} {x2 : Nat} {h : xH} {Q : Outcome → xH → Prop} (hq : bX5_formal G fr lo x0 x1 x2 h Q) : xR G YX5_formal fr lo [rv x0, rv x1, rv x2] h Q := by
  show xP _ _ _ _ _ (lv_args 0 _) _ _ _
  rw [show lv_args 0 [rv x0, rv x1, rv x2] = [(0, rv x0), (1, rv x1), (2, rv x2)] from (xla1 (rv_cat _) (xla1 (rv_cat _) (xla1 (rv_cat _) xla0)))]
  exact uX5_formal hq
set_option maxRecDepth 100000 in
theorem dX5_result_0 : decode cX5_result 0 = .ok (.aload_n 0, 1) := by decide +kernel
set_option maxRecDepth 100000 in
theorem dX5_result_1 : decode cX5_result 1 = .ok (.aload_n 1, 1) := by decide +kernel
set_option maxRecDepth 100000 in
theorem dX5_result_2 : decode cX5_result 2 = .ok (.invokevirtual 265, 3) := by decide +kernel
set_option maxRecDepth 100000 in
theorem dX5_result_5 : decode cX5_result 5 = .ok (.astore_n 2, 1) := by decide +kernel
set_option maxRecDepth 100000 in
theorem dX5_result_6 : decode cX5_result 6 = .ok (.aload_n 2, 1) := by decide +kernel
set_option maxRecDepth 100000 in
theorem dX5_result_7 : decode cX5_result 7 = .ok (.invokevirtual 543, 3) := by decide +kernel
set_option maxRecDepth 100000 in
theorem dX5_result_10 : decode cX5_result 10 = .ok (.ifCond .ne 23, 3) := by decide +kernel
set_option maxRecDepth 100000 in
theorem dX5_result_13 : decode cX5_result 13 = .ok (.aload_n 2, 1) := by decide +kernel
set_option maxRecDepth 100000 in
theorem dX5_result_14 : decode cX5_result 14 = .ok (.getfield 289, 3) := by decide +kernel
set_option maxRecDepth 100000 in
theorem dX5_result_17 : decode cX5_result 17 = .ok (.bipush 9, 2) := by decide +kernel
set_option maxRecDepth 100000 in
theorem dX5_result_19 : decode cX5_result 19 = .ok (.if_icmp .eq 14, 3) := by decide +kernel
set_option maxRecDepth 100000 in
theorem dX5_result_22 : decode cX5_result 22 = .ok (.aload_n 0, 1) := by decide +kernel
set_option maxRecDepth 100000 in
theorem dX5_result_23 : decode cX5_result 23 = .ok (.bipush 7, 2) := by decide +kernel
set_option maxRecDepth 100000 in
theorem dX5_result_25 : decode cX5_result 25 = .ok (.aload_n 1, 1) := by decide +kernel
set_option maxRecDepth 100000 in
theorem dX5_result_26 : decode cX5_result 26 = .ok (.invokevirtual 192, 3) := by decide +kernel
set_option maxRecDepth 100000 in
theorem dX5_result_29 : decode cX5_result 29 = .ok (.invokevirtual 163, 3) := by decide +kernel
set_option maxRecDepth 100000 in
theorem dX5_result_32 : decode cX5_result 32 = .ok (.athrow, 1) := by decide +kernel
set_option maxRecDepth 100000 in
theorem dX5_result_33 : decode cX5_result 33 = .ok (.aload_n 2, 1) := by decide +kernel
set_option maxRecDepth 100000 in
theorem dX5_result_34 : decode cX5_result 34 = .ok (.areturn, 1) := by decide +kernel
set_option maxRecDepth 100000 in
def bX5_result_33 (G : xG) (fr lo : Nat) (x2 : Nat) (h : xH) (Q : Outcome → xH → Prop) : Prop := Q (.returned (some (rv x2))) h
set_option maxRecDepth 100000 in
theorem uX5_result_33 {G : xG} {fr lo : Nat} {x2 : Nat} {h : xH} {Q : Outcome → xH → Prop} (hq : bX5_result_33 G fr lo x2 h Q) : xP G YX5_result fr lo 33 [(2, rv x2)] [] h Q := by
  unfold bX5_result_33 at hq
  refine x_aload_n 0 dX5_result_33 rfl ?_
  exact x_aret rfl xty_O dX5_result_34 hq
set_option maxRecDepth 100000 in
def bX5_result (G : xG) (fr lo : Nat) (x0 : Nat) (x1 : Nat) (h : xH) (Q : Outcome → xH → Prop) : Prop := tg h x0 = 6 ∧ 1 ≤ fr ∧ 13 ≤ lo ∧ xRr G YX5_namedType (fr - 1) (lo - 13) [rv x0, rv x1] h (fun x5 h4 => xext h h4 → tg h4 x5 = 7 ∧ 1 ≤ fr ∧ 12 ≤ lo ∧ xRi G YX6_isSimple (fr - 1) (lo - 12) [rv x5] h4 (fun x11 h10 => xext h4 h10 → ((¬ x11 = 0 → bX5_result_33 G fr lo x5 h10 Q) ∧ (x11 = 0 → (((fI h10 x5 1536) = 9 → bX5_result_33 G fr lo x5 h10 Q) ∧ (¬ (fI h10 x5 1536) = 9 → tg h10 x1 = 16 ∧ 1 ≤ fr ∧ 14 ≤ lo ∧ xRi G YX15_place (fr - 1) (lo - 14) [rv x1] h10 (fun x20 h19 => xext h10 h19 → 1 ≤ fr ∧ 14 ≤ lo ∧ xRr G YX5_fault (fr - 1) (lo - 14) [rv x0, .int 7, .int x20] h19 (fun x28 h27 => xext h19 h27 → (∃ r30, x28 = r30 + 1 ∧ Q (.threw r30) h27)) (fun r h2 => Q (.threw r) h2)) (fun r h2 => Q (.threw r) h2)))))) (fun r h2 => Q (.threw r) h2)) (fun r h2 => Q (.threw r) h2)
set_option maxRecDepth 100000 in
theorem uX5_result {G : xG} {fr lo : Nat} {x0 : Nat} {x1 : Nat} {h : xH} {Q : Outcome → xH → Prop} (hq : bX5_result G fr lo x0 x1 h Q) : xP G YX5_result fr lo 0 [(0, rv x0), (1, rv x1)] [] h Q := by
  unfold bX5_result at hq
  refine x_aload_n 0 dX5_result_0 rfl ?_
  refine x_aload_n 1 dX5_result_1 rfl ?_
  obtain ⟨g1, hq⟩ := hq
  obtain ⟨g2, g3, hq⟩ := hq
  refine x_callV (Yc := YX5_namedType) (as := [rv x1]) (st := []) q2276 mvX5_namedType g1 rfl dX5_result_2 (xle (xal1 (rv_cat _) (xal1 (rv_cat _) xal0)) (by decide)) (xfr g2) (xlo xsw0 (by decide) g3) (xKr hq (fun x5 h4 hq e6 => ?_) (fun _ _ q _ => q))
  replace hq := hq e6
  refine x_astore_n (lv' := [(2, rv x5), (0, rv x0), (1, rv x1)]) dX5_result_5 (by decide) (by first | rfl | (simp [rv_cat, Value.category]; done) | (simp [rv_cat, Value.category]; decide)) ?_
  refine x_aload_n 0 dX5_result_6 rfl ?_
  obtain ⟨g7, hq⟩ := hq
  obtain ⟨g8, g9, hq⟩ := hq
  refine x_callV (Yc := YX6_isSimple) (as := []) (st := []) q2451 mvX6_isSimple g7 rfl dX5_result_7 (xle (xal1 (rv_cat _) xal0) (by decide)) (xfr g8) (xlo xsw0 (by decide) g9) (xKi hq (fun x11 h10 hq e12 => ?_) (fun _ _ q _ => q))
  replace hq := hq e12
  refine x_if_ne (tgt := 33) dX5_result_10 (by decide) (fun c13 => ?_) (fun c13 => ?_)
  · replace hq := hq.1 c13
    refine xP.pick (lv' := [(2, rv x5)]) [0] rfl ?_
    exact uX5_result_33 hq
  · replace hq := hq.2 c13
    refine x_aload_n 0 dX5_result_13 rfl ?_
    have t14 : tg h10 x5 = 7 := e12.tg g7 (by decide)
    refine x_getN (v := .int (fI h10 x5 1536)) gfX5_289 dX5_result_14 t14 rfl ?_
    refine x_bipush (v := 9) dX5_result_17 (by decide) ?_
    refine x_icmp_eq (tgt := 33) dX5_result_19 (by decide) (fun c15 => ?_) (fun c15 => ?_)
    · replace hq := hq.1 c15
      refine xP.pick (lv' := [(2, rv x5)]) [0] rfl ?_
      exact uX5_result_33 hq
    · replace hq := hq.2 c15
      refine x_aload_n 1 dX5_result_22 rfl ?_
      refine x_bipush (v := 7) dX5_result_23 (by decide) ?_
      refine x_aload_n 2 dX5_result_25 rfl ?_
      obtain ⟨g16, hq⟩ := hq
      obtain ⟨g17, g18, hq⟩ := hq
      refine x_callV (Yc := YX15_place) (as := []) (st := [.int 7, rv x0]) q2013 mvX15_place g16 rfl dX5_result_26 (xle (xal1 (rv_cat _) xal0) (by decide)) (xfr g17) (xlo (xsw1 rfl (xsw1 (rv_cat _) xsw0)) (by decide) g18) (xKi hq (fun x20 h19 hq e21 => ?_) (fun _ _ q _ => q))
      replace hq := hq e21
      have t22 : tg h4 x0 = 6 := e6.tg g1 (by decide)
      have t23 : tg h10 x0 = 6 := e12.tg t22 (by decide)
      have t24 : tg h19 x0 = 6 := e21.tg t23 (by decide)
      obtain ⟨g25, g26, hq⟩ := hq
      refine x_callV (Yc := YX5_fault) (as := [.int 7, .int x20]) (st := []) q2087 mvX5_fault t24 rfl dX5_result_29 (xle (xal1 (rv_cat _) (xal1 rfl (xal1 rfl xal0))) (by decide)) (xfr g25) (xlo xsw0 (by decide) g26) (xKr hq (fun x28 h27 hq e29 => ?_) (fun _ _ q _ => q))
      replace hq := hq e29
      obtain ⟨r30, g31, hq⟩ := hq
      rw [g31]
      exact x_athrow dX5_result_32 hq
theorem rX5_result {G : xG} {fr lo : Nat} {x0 : Nat} {x1 : Nat} {h : xH} {Q : Outcome → xH → Prop} (hq : bX5_result G fr lo x0 x1 h Q) : xR G YX5_result fr lo [rv x0, rv x1] h Q := by
  show xP _ _ _ _ _ (lv_args 0 _) _ _ _
  rw [show lv_args 0 [rv x0, rv x1] = [(0, rv x0), (1, rv x1)] from (xla1 (rv_cat _) (xla1 (rv_cat _) xla0))]
  exact uX5_result hq
set_option maxRecDepth 100000 in
theorem dX5_parameter_0 : decode cX5_parameter 0 = .ok (.aload_n 0, 1) := by decide +kernel
set_option maxRecDepth 100000 in
theorem dX5_parameter_1 : decode cX5_parameter 1 = .ok (.aload_n 1, 1) := by decide +kernel
set_option maxRecDepth 100000 in
theorem dX5_parameter_2 : decode cX5_parameter 2 = .ok (.getfield 415, 3) := by decide +kernel
set_option maxRecDepth 100000 in
theorem dX5_parameter_5 : decode cX5_parameter 5 = .ok (.aload_n 3, 1) := by decide +kernel
set_option maxRecDepth 100000 in
theorem dX5_parameter_6 : decode cX5_parameter 6 = .ok (.aload 4, 2) := by decide +kernel
set_option maxRecDepth 100000 in
theorem dX5_parameter_8 : decode cX5_parameter 8 = .ok (.invokevirtual 192, 3) := by decide +kernel
set_option maxRecDepth 100000 in
theorem dX5_parameter_11 : decode cX5_parameter 11 = .ok (.invokevirtual 303, 3) := by decide +kernel
set_option maxRecDepth 100000 in
theorem dX5_parameter_14 : decode cX5_parameter 14 = .ok (.aload_n 1, 1) := by decide +kernel
set_option maxRecDepth 100000 in
theorem dX5_parameter_15 : decode cX5_parameter 15 = .ok (.getfield 560, 3) := by decide +kernel
set_option maxRecDepth 100000 in
theorem dX5_parameter_18 : decode cX5_parameter 18 = .ok (.invokevirtual 490, 3) := by decide +kernel
set_option maxRecDepth 100000 in
theorem dX5_parameter_21 : decode cX5_parameter 21 = .ok (.bipush 30, 2) := by decide +kernel
set_option maxRecDepth 100000 in
theorem dX5_parameter_23 : decode cX5_parameter 23 = .ok (.if_icmp .ne 15, 3) := by decide +kernel
set_option maxRecDepth 100000 in
theorem dX5_parameter_26 : decode cX5_parameter 26 = .ok (.aload_n 0, 1) := by decide +kernel
set_option maxRecDepth 100000 in
theorem dX5_parameter_27 : decode cX5_parameter 27 = .ok (.bipush 9, 2) := by decide +kernel
set_option maxRecDepth 100000 in
theorem dX5_parameter_29 : decode cX5_parameter 29 = .ok (.aload 4, 2) := by decide +kernel
set_option maxRecDepth 100000 in
theorem dX5_parameter_31 : decode cX5_parameter 31 = .ok (.invokevirtual 192, 3) := by decide +kernel
set_option maxRecDepth 100000 in
theorem dX5_parameter_34 : decode cX5_parameter 34 = .ok (.invokevirtual 163, 3) := by decide +kernel
set_option maxRecDepth 100000 in
theorem dX5_parameter_37 : decode cX5_parameter 37 = .ok (.athrow, 1) := by decide +kernel
set_option maxRecDepth 100000 in
theorem dX5_parameter_38 : decode cX5_parameter 38 = .ok (.aload_n 2, 1) := by decide +kernel
set_option maxRecDepth 100000 in
theorem dX5_parameter_39 : decode cX5_parameter 39 = .ok (.aload_n 3, 1) := by decide +kernel
set_option maxRecDepth 100000 in
theorem dX5_parameter_40 : decode cX5_parameter 40 = .ok (.putfield 562, 3) := by decide +kernel
set_option maxRecDepth 100000 in
theorem dX5_parameter_43 : decode cX5_parameter 43 = .ok (.aload_n 2, 1) := by decide +kernel
set_option maxRecDepth 100000 in
theorem dX5_parameter_44 : decode cX5_parameter 44 = .ok (.aload_n 1, 1) := by decide +kernel
set_option maxRecDepth 100000 in
theorem dX5_parameter_45 : decode cX5_parameter 45 = .ok (.getfield 451, 3) := by decide +kernel
set_option maxRecDepth 100000 in
theorem dX5_parameter_48 : decode cX5_parameter 48 = .ok (.putfield 565, 3) := by decide +kernel
set_option maxRecDepth 100000 in
theorem dX5_parameter_51 : decode cX5_parameter 51 = .ok (.aload_n 3, 1) := by decide +kernel
set_option maxRecDepth 100000 in
theorem dX5_parameter_52 : decode cX5_parameter 52 = .ok (.aload_n 1, 1) := by decide +kernel
set_option maxRecDepth 100000 in
theorem dX5_parameter_53 : decode cX5_parameter 53 = .ok (.getfield 447, 3) := by decide +kernel
set_option maxRecDepth 100000 in
theorem dX5_parameter_56 : decode cX5_parameter 56 = .ok (.putfield 450, 3) := by decide +kernel
set_option maxRecDepth 100000 in
theorem dX5_parameter_59 : decode cX5_parameter 59 = .ok (.aload_n 3, 1) := by decide +kernel
set_option maxRecDepth 100000 in
theorem dX5_parameter_60 : decode cX5_parameter 60 = .ok (.aload_n 1, 1) := by decide +kernel
set_option maxRecDepth 100000 in
theorem dX5_parameter_61 : decode cX5_parameter 61 = .ok (.getfield 451, 3) := by decide +kernel
set_option maxRecDepth 100000 in
theorem dX5_parameter_64 : decode cX5_parameter 64 = .ok (.putfield 454, 3) := by decide +kernel
set_option maxRecDepth 100000 in
theorem dX5_parameter_67 : decode cX5_parameter 67 = .ok (.aload_n 1, 1) := by decide +kernel
set_option maxRecDepth 100000 in
theorem dX5_parameter_68 : decode cX5_parameter 68 = .ok (.aload_n 1, 1) := by decide +kernel
set_option maxRecDepth 100000 in
theorem dX5_parameter_69 : decode cX5_parameter 69 = .ok (.getfield 451, 3) := by decide +kernel
set_option maxRecDepth 100000 in
theorem dX5_parameter_72 : decode cX5_parameter 72 = .ok (.iload 5, 2) := by decide +kernel
set_option maxRecDepth 100000 in
theorem dX5_parameter_74 : decode cX5_parameter 74 = .ok (.iadd, 1) := by decide +kernel
set_option maxRecDepth 100000 in
theorem dX5_parameter_75 : decode cX5_parameter 75 = .ok (.ldc_w 457, 3) := by decide +kernel
set_option maxRecDepth 100000 in
theorem dX5_parameter_78 : decode cX5_parameter 78 = .ok (.if_icmp .le 9, 3) := by decide +kernel
set_option maxRecDepth 100000 in
theorem dX5_parameter_81 : decode cX5_parameter 81 = .ok (.ldc_w 457, 3) := by decide +kernel
set_option maxRecDepth 100000 in
theorem dX5_parameter_84 : decode cX5_parameter 84 = .ok (.goto 10, 3) := by decide +kernel
set_option maxRecDepth 100000 in
theorem dX5_parameter_87 : decode cX5_parameter 87 = .ok (.aload_n 1, 1) := by decide +kernel
set_option maxRecDepth 100000 in
theorem dX5_parameter_88 : decode cX5_parameter 88 = .ok (.getfield 451, 3) := by decide +kernel
set_option maxRecDepth 100000 in
theorem dX5_parameter_91 : decode cX5_parameter 91 = .ok (.iload 5, 2) := by decide +kernel
set_option maxRecDepth 100000 in
theorem dX5_parameter_93 : decode cX5_parameter 93 = .ok (.iadd, 1) := by decide +kernel
set_option maxRecDepth 100000 in
theorem dX5_parameter_94 : decode cX5_parameter 94 = .ok (.putfield 451, 3) := by decide +kernel
set_option maxRecDepth 100000 in
theorem dX5_parameter_97 : decode cX5_parameter 97 = .ok (.aload_n 1, 1) := by decide +kernel
set_option maxRecDepth 100000 in
theorem dX5_parameter_98 : decode cX5_parameter 98 = .ok (.getfield 560, 3) := by decide +kernel
set_option maxRecDepth 100000 in
theorem dX5_parameter_101 : decode cX5_parameter 101 = .ok (.aload_n 2, 1) := by decide +kernel
set_option maxRecDepth 100000 in
theorem dX5_parameter_102 : decode cX5_parameter 102 = .ok (.invokevirtual 120, 3) := by decide +kernel
set_option maxRecDepth 100000 in
theorem dX5_parameter_105 : decode cX5_parameter 105 = .ok (.pop, 1) := by decide +kernel
set_option maxRecDepth 100000 in
theorem dX5_parameter_106 : decode cX5_parameter 106 = .ok (.return_, 1) := by decide +kernel
set_option maxRecDepth 100000 in
def bX5_parameter_94 (G : xG) (fr lo : Nat) (x1 : Nat) (x2 : Nat) (s0 : Int32) (s1 : Nat) (h : xH) (Q : Outcome → xH → Prop) : Prop := tg h s1 = 17 ∧ (∀ h2 : xH, h2 = sI h s1 4104 s0 → tg h2 x1 = 17 ∧ tg h2 (fR h2 x1 4099) = 29 ∧ 1 ≤ fr ∧ 13 ≤ lo ∧ xRi G YJ2_add (fr - 1) (lo - 13) [rv (fR h2 x1 4099), rv x2] h2 (fun x9 h8 => xext h2 h8 → Q (.returned none) h8) (fun r h2 => Q (.threw r) h2))
set_option maxRecDepth 100000 in
theorem uX5_parameter_94 {G : xG} {fr lo : Nat} {x1 : Nat} {x2 : Nat} {s0 : Int32} {s1 : Nat} {h : xH} {Q : Outcome → xH → Prop} (hq : bX5_parameter_94 G fr lo x1 x2 s0 s1 h Q) : xP G YX5_parameter fr lo 94 [(1, rv x1), (2, rv x2)] [.int s0, rv s1] h Q := by
  unfold bX5_parameter_94 at hq
  obtain ⟨g1, hq⟩ := hq
  obtain ⟨h2, e3⟩ : ∃ y, y = sI h s1 4104 s0 := ⟨_, rfl⟩
  replace hq := hq h2 e3
  refine x_putNI gfX5_451 xty_I1 dX5_parameter_94 g1 (Or.inl (by rw [g1]; rfl)) xnI rfl e3 ?_
  refine x_aload_n 0 dX5_parameter_97 rfl ?_
  obtain ⟨g4, hq⟩ := hq
  refine x_getN (v := rv (fR h2 x1 4099)) gfX5_560 dX5_parameter_98 g4 rfl ?_
  refine x_aload_n 1 dX5_parameter_101 rfl ?_
  obtain ⟨g5, hq⟩ := hq
  obtain ⟨g6, g7, hq⟩ := hq
  refine x_callV (Yc := YJ2_add) (as := [rv x2]) (st := []) q1009 mvJ2_add g5 rfl dX5_parameter_102 (xle (xal1 (rv_cat _) (xal1 (rv_cat _) xal0)) (by decide)) (xfr g6) (xlo xsw0 (by decide) g7) (xKi hq (fun x9 h8 hq e10 => ?_) (fun _ _ q _ => q))
  replace hq := hq e10
  refine x_pop dX5_parameter_105 rfl ?_
  exact x_vret rfl dX5_parameter_106 hq
set_option maxRecDepth 100000 in
def bX5_parameter (G : xG) (fr lo : Nat) (x0 : Nat) (x1 : Nat) (x2 : Nat) (x3 : Nat) (x4 : Nat) (x5 : Int32) (h : xH) (Q : Outcome → xH → Prop) : Prop := tg h x1 = 17 ∧ tg h x4 = 16 ∧ 1 ≤ fr ∧ 15 ≤ lo ∧ xRi G YX15_place (fr - 1) (lo - 15) [rv x4] h (fun x6 h5 => xext h h5 → tg h5 x0 = 6 ∧ 1 ≤ fr ∧ 15 ≤ lo ∧ xRv G YX5_define (fr - 1) (lo - 15) [rv x0, rv (fR h x1 4101), rv x3, .int x6] h5 (fun h11 => xext h5 h11 → tg h11 (fR h11 x1 4099) = 29 ∧ 1 ≤ fr ∧ 12 ≤ lo ∧ xRi G YJ2_size (fr - 1) (lo - 12) [rv (fR h11 x1 4099)] h11 (fun x20 h19 => xext h11 h19 → ((¬ x20 = 30 → tg h19 x2 = 22 ∧ (∀ h24 : xH, h24 = sR h19 x2 5379 x3 → (∀ h29 : xH, h29 = sI h24 x2 5380 (fI h24 x1 4104) → tg h29 x3 = 9 ∧ (∀ h33 : xH, h33 = sI h29 x3 2052 (fI h29 x1 4102) → (∀ h37 : xH, h37 = sI h33 x3 2053 (fI h33 x1 4104) → ((((fI h37 x1 4104) + x5) ≤ 1000000 → bX5_parameter_94 G fr lo x1 x2 ((fI h37 x1 4104) + x5) x1 h37 Q) ∧ (¬ ((fI h37 x1 4104) + x5) ≤ 1000000 → bX5_parameter_94 G fr lo x1 x2 1000000 x1 h37 Q))))))) ∧ (x20 = 30 → 1 ≤ fr ∧ 14 ≤ lo ∧ xRi G YX15_place (fr - 1) (lo - 14) [rv x4] h19 (fun x47 h46 => xext h19 h46 → 1 ≤ fr ∧ 14 ≤ lo ∧ xRr G YX5_fault (fr - 1) (lo - 14) [rv x0, .int 9, .int x47] h46 (fun x55 h54 => xext h46 h54 → (∃ r57, x55 = r57 + 1 ∧ Q (.threw r57) h54)) (fun r h2 => Q (.threw r) h2)) (fun r h2 => Q (.threw r) h2)))) (fun r h2 => Q (.threw r) h2)) (fun r h2 => Q (.threw r) h2)) (fun r h2 => Q (.threw r) h2)
set_option maxRecDepth 100000 in
theorem uX5_parameter {G : xG} {fr lo : Nat} {x0 : Nat} {x1 : Nat} {x2 : Nat} {x3 : Nat} {x4 : Nat} {x5 : Int32} {h : xH} {Q : Outcome → xH → Prop} (hq : bX5_parameter G fr lo x0 x1 x2 x3 x4 x5 h Q) : xP G YX5_parameter fr lo 0 [(0, rv x0), (1, rv x1), (2, rv x2), (3, rv x3), (4, rv x4), (5, .int x5)] [] h Q := by
  unfold bX5_parameter at hq
  refine x_aload_n 0 dX5_parameter_0 rfl ?_
  refine x_aload_n 1 dX5_parameter_1 rfl ?_
  obtain ⟨g1, hq⟩ := hq
  refine x_getN (v := rv (fR h x1 4101)) gfX5_415 dX5_parameter_2 g1 rfl ?_
  refine x_aload_n 3 dX5_parameter_5 rfl ?_
  refine x_aload 4 dX5_parameter_6 rfl ?_
  obtain ⟨g2, hq⟩ := hq
  obtain ⟨g3, g4, hq⟩ := hq
  refine x_callV (Yc := YX15_place) (as := []) (st := [rv x3, rv (fR h x1 4101), rv x0]) q2013 mvX15_place g2 rfl dX5_parameter_8 (xle (xal1 (rv_cat _) xal0) (by decide)) (xfr g3) (xlo (xsw1 (rv_cat _) (xsw1 (rv_cat _) (xsw1 (rv_cat _) xsw0))) (by decide) g4) (xKi hq (fun x6 h5 hq e7 => ?_) (fun _ _ q _ => q))
  replace hq := hq e7
  obtain ⟨g8, hq⟩ := hq
  obtain ⟨g9, g10, hq⟩ := hq
  refine x_callV (Yc := YX5_define) (as := [rv (fR h x1 4101), rv x3, .int x6]) (st := []) q2103 mvX5_define g8 rfl dX5_parameter_11 (xle (xal1 (rv_cat _) (xal1 (rv_cat _) (xal1 (rv_cat _) (xal1 rfl xal0)))) (by decide)) (xfr g9) (xlo xsw0 (by decide) g10) (xKv hq (fun h11 hq e13 => ?_) (fun _ _ q _ => q))
  replace hq := hq e13
  refine x_aload_n 1 dX5_parameter_14 rfl ?_
  have t14 : tg h5 x1 = 17 := e7.tg g1 (by decide)
  have t15 : tg h11 x1 = 17 := e13.tg t14 (by decide)
  refine x_getN (v := rv (fR h11 x1 4099)) gfX5_560 dX5_parameter_15 t15 rfl ?_
  obtain ⟨g16, hq⟩ := hq
  obtain ⟨g17, g18, hq⟩ := hq
  refine x_callV (Yc := YJ2_size) (as := []) (st := []) q2271 mvJ2_size g16 rfl dX5_parameter_18 (xle (xal1 (rv_cat _) xal0) (by decide)) (xfr g17) (xlo xsw0 (by decide) g18) (xKi hq (fun x20 h19 hq e21 => ?_) (fun _ _ q _ => q))
  replace hq := hq e21
  refine x_bipush (v := 30) dX5_parameter_21 (by decide) ?_
  refine x_icmp_ne (tgt := 38) dX5_parameter_23 (by decide) (fun c22 => ?_) (fun c22 => ?_)
  · replace hq := hq.1 c22
    refine x_aload_n 2 dX5_parameter_38 rfl ?_
    refine x_aload_n 3 dX5_parameter_39 rfl ?_
    obtain ⟨g23, hq⟩ := hq
    obtain ⟨h24, e25⟩ : ∃ y, y = sR h19 x2 5379 x3 := ⟨_, rfl⟩
    replace hq := hq h24 e25
    refine x_putNR gfX5_562 xty_O dX5_parameter_40 g23 (Or.inl (by rw [g23]; rfl)) rfl e25 ?_
    refine x_aload_n 2 dX5_parameter_43 rfl ?_
    refine x_aload_n 1 dX5_parameter_44 rfl ?_
    have t26 : tg h19 x1 = 17 := e21.tg t15 (by decide)
    have t27 : tg h24 x1 = 17 := by rw [e25]; exact t26
    refine x_getN (v := .int (fI h24 x1 4104)) gfX5_451 dX5_parameter_45 t27 rfl ?_
    have t28 : tg h24 x2 = 22 := by rw [e25]; exact g23
    obtain ⟨h29, e30⟩ : ∃ y, y = sI h24 x2 5380 (fI h24 x1 4104) := ⟨_, rfl⟩
    replace hq := hq h29 e30
    refine x_putNI gfX5_565 xty_I1 dX5_parameter_48 t28 (Or.inl (by rw [t28]; rfl)) xnI rfl e30 ?_
    refine x_aload_n 3 dX5_parameter_51 rfl ?_
    refine x_aload_n 1 dX5_parameter_52 rfl ?_
    have t31 : tg h29 x1 = 17 := by rw [e30]; exact t27
    refine x_getN (v := .int (fI h29 x1 4102)) gfX5_447 dX5_parameter_53 t31 rfl ?_
    obtain ⟨g32, hq⟩ := hq
    obtain ⟨h33, e34⟩ : ∃ y, y = sI h29 x3 2052 (fI h29 x1 4102) := ⟨_, rfl⟩
    replace hq := hq h33 e34
    refine x_putNI gfX5_450 xty_I1 dX5_parameter_56 g32 (Or.inl (by rw [g32]; rfl)) xnI rfl e34 ?_
    refine x_aload_n 3 dX5_parameter_59 rfl ?_
    refine x_aload_n 1 dX5_parameter_60 rfl ?_
    have t35 : tg h33 x1 = 17 := by rw [e34]; exact t31
    refine x_getN (v := .int (fI h33 x1 4104)) gfX5_451 dX5_parameter_61 t35 rfl ?_
    have t36 : tg h33 x3 = 9 := by rw [e34]; exact g32
    obtain ⟨h37, e38⟩ : ∃ y, y = sI h33 x3 2053 (fI h33 x1 4104) := ⟨_, rfl⟩
    replace hq := hq h37 e38
    refine x_putNI gfX5_454 xty_I1 dX5_parameter_64 t36 (Or.inl (by rw [t36]; rfl)) xnI rfl e38 ?_
    refine x_aload_n 1 dX5_parameter_67 rfl ?_
    refine x_aload_n 1 dX5_parameter_68 rfl ?_
    have t39 : tg h37 x1 = 17 := by rw [e38]; exact t35
    refine x_getN (v := .int (fI h37 x1 4104)) gfX5_451 dX5_parameter_69 t39 rfl ?_
    refine x_iload 5 dX5_parameter_72 rfl ?_
    refine x_iadd dX5_parameter_74 ?_
    refine x_ldcw (v := 1000000) q2102 dX5_parameter_75 ?_
    refine x_icmp_le (tgt := 87) dX5_parameter_78 (by decide) (fun c40 => ?_) (fun c40 => ?_)
    · replace hq := hq.1 c40
      refine x_aload_n 1 dX5_parameter_87 rfl ?_
      refine x_getN (v := .int (fI h37 x1 4104)) gfX5_451 dX5_parameter_88 t39 rfl ?_
      refine x_iload 5 dX5_parameter_91 rfl ?_
      refine x_iadd dX5_parameter_93 ?_
      refine xP.pick (lv' := [(1, rv x1), (2, rv x2)]) [1, 2] rfl ?_
      exact uX5_parameter_94 hq
    · replace hq := hq.2 c40
      refine x_ldcw (v := 1000000) q2102 dX5_parameter_81 ?_
      refine x_goto (tgt := 94) dX5_parameter_84 (by decide) ?_
      refine xP.pick (lv' := [(1, rv x1), (2, rv x2)]) [1, 2] rfl ?_
      exact uX5_parameter_94 hq
  · replace hq := hq.2 c22
    refine x_aload_n 0 dX5_parameter_26 rfl ?_
    refine x_bipush (v := 9) dX5_parameter_27 (by decide) ?_
    refine x_aload 4 dX5_parameter_29 rfl ?_
    have t41 : tg h5 x4 = 16 := e7.tg g2 (by decide)
    have t42 : tg h11 x4 = 16 := e13.tg t41 (by decide)
    have t43 : tg h19 x4 = 16 := e21.tg t42 (by decide)
    obtain ⟨g44, g45, hq⟩ := hq
    refine x_callV (Yc := YX15_place) (as := []) (st := [.int 9, rv x0]) q2013 mvX15_place t43 rfl dX5_parameter_31 (xle (xal1 (rv_cat _) xal0) (by decide)) (xfr g44) (xlo (xsw1 rfl (xsw1 (rv_cat _) xsw0)) (by decide) g45) (xKi hq (fun x47 h46 hq e48 => ?_) (fun _ _ q _ => q))
    replace hq := hq e48
    have t49 : tg h11 x0 = 6 := e13.tg g8 (by decide)
    have t50 : tg h19 x0 = 6 := e21.tg t49 (by decide)
    have t51 : tg h46 x0 = 6 := e48.tg t50 (by decide)
    obtain ⟨g52, g53, hq⟩ := hq
    refine x_callV (Yc := YX5_fault) (as := [.int 9, .int x47]) (st := []) q2087 mvX5_fault t51 rfl dX5_parameter_34 (xle (xal1 (rv_cat _) (xal1 rfl (xal1 rfl xal0))) (by decide)) (xfr g52) (xlo xsw0 (by decide) g53) (xKr hq (fun x55 h54 hq e56 => ?_) (fun _ _ q _ => q))
    replace hq := hq e56
    obtain ⟨r57, g58, hq⟩ := hq
    rw [g58]
    exact x_athrow dX5_parameter_37 hq
theorem rX5_parameter {G : xG} {fr lo : Nat} {x0 : Nat} {x1 : Nat} {x2 : Nat} {x3 : Nat} {x4 : Nat} {x5 : Int32} {h : xH} {Q : Outcome → xH → Prop} (hq : bX5_parameter G fr lo x0 x1 x2 x3 x4 x5 h Q) : xR G YX5_parameter fr lo [rv x0, rv x1, rv x2, rv x3, rv x4, .int x5] h Q := by
  show xP _ _ _ _ _ (lv_args 0 _) _ _ _
  rw [show lv_args 0 [rv x0, rv x1, rv x2, rv x3, rv x4, .int x5] = [(0, rv x0), (1, rv x1), (2, rv x2), (3, rv x3), (4, rv x4), (5, .int x5)] from (xla1 (rv_cat _) (xla1 (rv_cat _) (xla1 (rv_cat _) (xla1 (rv_cat _) (xla1 (rv_cat _) (xla1 rfl xla0))))))]
  exact uX5_parameter hq
set_option maxRecDepth 100000 in
theorem dX5_statement_0 : decode cX5_statement 0 = .ok (.aload_n 0, 1) := by decide +kernel
set_option maxRecDepth 100000 in
theorem dX5_statement_1 : decode cX5_statement 1 = .ok (.getfield 62, 3) := by decide +kernel
set_option maxRecDepth 100000 in
theorem dX5_statement_4 : decode cX5_statement 4 = .ok (.bipush 52, 2) := by decide +kernel
set_option maxRecDepth 100000 in
theorem dX5_statement_6 : decode cX5_statement 6 = .ok (.iconst 0, 1) := by decide +kernel
set_option maxRecDepth 100000 in
theorem dX5_statement_7 : decode cX5_statement 7 = .ok (.iconst 0, 1) := by decide +kernel
set_option maxRecDepth 100000 in
theorem dX5_statement_8 : decode cX5_statement 8 = .ok (.iconst 0, 1) := by decide +kernel
set_option maxRecDepth 100000 in
theorem dX5_statement_9 : decode cX5_statement 9 = .ok (.aload_n 1, 1) := by decide +kernel
set_option maxRecDepth 100000 in
theorem dX5_statement_10 : decode cX5_statement 10 = .ok (.invokevirtual 192, 3) := by decide +kernel
set_option maxRecDepth 100000 in
theorem dX5_statement_13 : decode cX5_statement 13 = .ok (.invokevirtual 506, 3) := by decide +kernel
set_option maxRecDepth 100000 in
theorem dX5_statement_16 : decode cX5_statement 16 = .ok (.pop, 1) := by decide +kernel
set_option maxRecDepth 100000 in
theorem dX5_statement_17 : decode cX5_statement 17 = .ok (.aload_n 0, 1) := by decide +kernel
set_option maxRecDepth 100000 in
theorem dX5_statement_18 : decode cX5_statement 18 = .ok (.aload_n 1, 1) := by decide +kernel
set_option maxRecDepth 100000 in
theorem dX5_statement_19 : decode cX5_statement 19 = .ok (.iload_n 2, 1) := by decide +kernel
set_option maxRecDepth 100000 in
theorem dX5_statement_20 : decode cX5_statement 20 = .ok (.invokevirtual 611, 3) := by decide +kernel
set_option maxRecDepth 100000 in
theorem dX5_statement_23 : decode cX5_statement 23 = .ok (.return_, 1) := by decide +kernel
set_option maxRecDepth 100000 in
def bX5_statement (G : xG) (fr lo : Nat) (x0 : Nat) (x1 : Nat) (x2 : Int32) (h : xH) (Q : Outcome → xH → Prop) : Prop := tg h x0 = 6 ∧ tg h x1 = 16 ∧ 1 ≤ fr ∧ 17 ≤ lo ∧ xRi G YX15_place (fr - 1) (lo - 17) [rv x1] h (fun x6 h5 => xext h h5 → tg h5 (fR h x0 1281) = 3 ∧ 1 ≤ fr ∧ 17 ≤ lo ∧ xRi G YX2_put (fr - 1) (lo - 17) [rv (fR h x0 1281), .int 52, .int 0, .int 0, .int 0, .int x6] h5 (fun x12 h11 => xext h5 h11 → 1 ≤ fr ∧ 16 ≤ lo ∧ xRv G YX5_row (fr - 1) (lo - 16) [rv x0, rv x1, .int x2] h11 (fun h18 => xext h11 h18 → Q (.returned none) h18) (fun r h2 => Q (.threw r) h2)) (fun r h2 => Q (.threw r) h2)) (fun r h2 => Q (.threw r) h2)
set_option maxRecDepth 100000 in
theorem uX5_statement {G : xG} {fr lo : Nat} {x0 : Nat} {x1 : Nat} {x2 : Int32} {h : xH} {Q : Outcome → xH → Prop} (hq : bX5_statement G fr lo x0 x1 x2 h Q) : xP G YX5_statement fr lo 0 [(0, rv x0), (1, rv x1), (2, .int x2)] [] h Q := by
  unfold bX5_statement at hq
  refine x_aload_n 0 dX5_statement_0 rfl ?_
  obtain ⟨g1, hq⟩ := hq
  refine x_get (v := rv (fR h x0 1281)) fdX5_62 dX5_statement_1 g1 rfl ?_
  refine x_bipush (v := 52) dX5_statement_4 (by decide) ?_
  refine x_iconst (v := 0) dX5_statement_6 (by decide) ?_
  refine x_iconst (v := 0) dX5_statement_7 (by decide) ?_
  refine x_iconst (v := 0) dX5_statement_8 (by decide) ?_
  refine x_aload_n 1 dX5_statement_9 rfl ?_
  obtain ⟨g2, hq⟩ := hq
  obtain ⟨g3, g4, hq⟩ := hq
  refine x_callV (Yc := YX15_place) (as := []) (st := [.int 0, .int 0, .int 0, .int 52, rv (fR h x0 1281)]) q2013 mvX15_place g2 rfl dX5_statement_10 (xle (xal1 (rv_cat _) xal0) (by decide)) (xfr g3) (xlo (xsw1 rfl (xsw1 rfl (xsw1 rfl (xsw1 rfl (xsw1 (rv_cat _) xsw0))))) (by decide) g4) (xKi hq (fun x6 h5 hq e7 => ?_) (fun _ _ q _ => q))
  replace hq := hq e7
  obtain ⟨g8, hq⟩ := hq
  obtain ⟨g9, g10, hq⟩ := hq
  refine x_callV (Yc := YX2_put) (as := [.int 52, .int 0, .int 0, .int 0, .int x6]) (st := []) q2494 mvX2_put g8 rfl dX5_statement_13 (xle (xal1 (rv_cat _) (xal1 rfl (xal1 rfl (xal1 rfl (xal1 rfl (xal1 rfl xal0)))))) (by decide)) (xfr g9) (xlo xsw0 (by decide) g10) (xKi hq (fun x12 h11 hq e13 => ?_) (fun _ _ q _ => q))
  replace hq := hq e13
  refine x_pop dX5_statement_16 rfl ?_
  refine x_aload_n 0 dX5_statement_17 rfl ?_
  refine x_aload_n 1 dX5_statement_18 rfl ?_
  refine x_iload_n 2 dX5_statement_19 rfl ?_
  have t14 : tg h5 x0 = 6 := e7.tg g1 (by decide)
  have t15 : tg h11 x0 = 6 := e13.tg t14 (by decide)
  obtain ⟨g16, g17, hq⟩ := hq
  refine x_callV (Yc := YX5_row) (as := [rv x1, .int x2]) (st := []) q2498 mvX5_row t15 rfl dX5_statement_20 (xle (xal1 (rv_cat _) (xal1 (rv_cat _) (xal1 rfl xal0))) (by decide)) (xfr g16) (xlo xsw0 (by decide) g17) (xKv hq (fun h18 hq e20 => ?_) (fun _ _ q _ => q))
  replace hq := hq e20
  exact x_vret rfl dX5_statement_23 hq
theorem rX5_statement {G : xG} {fr lo : Nat} {x0 : Nat} {x1 : Nat} {x2 : Int32} {h : xH} {Q : Outcome → xH → Prop} (hq : bX5_statement G fr lo x0 x1 x2 h Q) : xR G YX5_statement fr lo [rv x0, rv x1, .int x2] h Q := by
  show xP _ _ _ _ _ (lv_args 0 _) _ _ _
  rw [show lv_args 0 [rv x0, rv x1, .int x2] = [(0, rv x0), (1, rv x1), (2, .int x2)] from (xla1 (rv_cat _) (xla1 (rv_cat _) (xla1 rfl xla0)))]
  exact uX5_statement hq
set_option maxRecDepth 100000 in
theorem dX5_row_0 : decode cX5_row 0 = .ok (.aload_n 0, 1) := by decide +kernel
set_option maxRecDepth 100000 in
theorem dX5_row_1 : decode cX5_row 1 = .ok (.dup, 1) := by decide +kernel
set_option maxRecDepth 100000 in
theorem dX5_row_2 : decode cX5_row 2 = .ok (.getfield 429, 3) := by decide +kernel
set_option maxRecDepth 100000 in
theorem dX5_row_5 : decode cX5_row 5 = .ok (.iconst 1, 1) := by decide +kernel
set_option maxRecDepth 100000 in
theorem dX5_row_6 : decode cX5_row 6 = .ok (.iadd, 1) := by decide +kernel
set_option maxRecDepth 100000 in
theorem dX5_row_7 : decode cX5_row 7 = .ok (.putfield 429, 3) := by decide +kernel
set_option maxRecDepth 100000 in
theorem dX5_row_10 : decode cX5_row 10 = .ok (.aload_n 0, 1) := by decide +kernel
set_option maxRecDepth 100000 in
theorem dX5_row_11 : decode cX5_row 11 = .ok (.getfield 429, 3) := by decide +kernel
set_option maxRecDepth 100000 in
theorem dX5_row_14 : decode cX5_row 14 = .ok (.istore_n 3, 1) := by decide +kernel
set_option maxRecDepth 100000 in
theorem dX5_row_15 : decode cX5_row 15 = .ok (.iload_n 2, 1) := by decide +kernel
set_option maxRecDepth 100000 in
theorem dX5_row_16 : decode cX5_row 16 = .ok (.ifCond .eq 11, 3) := by decide +kernel
set_option maxRecDepth 100000 in
theorem dX5_row_19 : decode cX5_row 19 = .ok (.aload_n 0, 1) := by decide +kernel
set_option maxRecDepth 100000 in
theorem dX5_row_20 : decode cX5_row 20 = .ok (.getfield 296, 3) := by decide +kernel
set_option maxRecDepth 100000 in
theorem dX5_row_23 : decode cX5_row 23 = .ok (.iload_n 3, 1) := by decide +kernel
set_option maxRecDepth 100000 in
theorem dX5_row_24 : decode cX5_row 24 = .ok (.putfield 587, 3) := by decide +kernel
set_option maxRecDepth 100000 in
theorem dX5_row_27 : decode cX5_row 27 = .ok (.aload_n 0, 1) := by decide +kernel
set_option maxRecDepth 100000 in
theorem dX5_row_28 : decode cX5_row 28 = .ok (.getfield 296, 3) := by decide +kernel
set_option maxRecDepth 100000 in
theorem dX5_row_31 : decode cX5_row 31 = .ok (.getfield 603, 3) := by decide +kernel
set_option maxRecDepth 100000 in
theorem dX5_row_34 : decode cX5_row 34 = .ok (.aload_n 0, 1) := by decide +kernel
set_option maxRecDepth 100000 in
theorem dX5_row_35 : decode cX5_row 35 = .ok (.getfield 296, 3) := by decide +kernel
set_option maxRecDepth 100000 in
theorem dX5_row_38 : decode cX5_row 38 = .ok (.getfield 604, 3) := by decide +kernel
set_option maxRecDepth 100000 in
theorem dX5_row_41 : decode cX5_row 41 = .ok (.iload_n 3, 1) := by decide +kernel
set_option maxRecDepth 100000 in
theorem dX5_row_42 : decode cX5_row 42 = .ok (.iastore, 1) := by decide +kernel
set_option maxRecDepth 100000 in
theorem dX5_row_43 : decode cX5_row 43 = .ok (.aload_n 0, 1) := by decide +kernel
set_option maxRecDepth 100000 in
theorem dX5_row_44 : decode cX5_row 44 = .ok (.getfield 296, 3) := by decide +kernel
set_option maxRecDepth 100000 in
theorem dX5_row_47 : decode cX5_row 47 = .ok (.dup, 1) := by decide +kernel
set_option maxRecDepth 100000 in
theorem dX5_row_48 : decode cX5_row 48 = .ok (.getfield 604, 3) := by decide +kernel
set_option maxRecDepth 100000 in
theorem dX5_row_51 : decode cX5_row 51 = .ok (.iconst 1, 1) := by decide +kernel
set_option maxRecDepth 100000 in
theorem dX5_row_52 : decode cX5_row 52 = .ok (.iadd, 1) := by decide +kernel
set_option maxRecDepth 100000 in
theorem dX5_row_53 : decode cX5_row 53 = .ok (.putfield 604, 3) := by decide +kernel
set_option maxRecDepth 100000 in
theorem dX5_row_56 : decode cX5_row 56 = .ok (.aload_n 1, 1) := by decide +kernel
set_option maxRecDepth 100000 in
theorem dX5_row_57 : decode cX5_row 57 = .ok (.getfield 251, 3) := by decide +kernel
set_option maxRecDepth 100000 in
theorem dX5_row_60 : decode cX5_row 60 = .ok (.astore 4, 2) := by decide +kernel
set_option maxRecDepth 100000 in
theorem dX5_row_62 : decode cX5_row 62 = .ok (.aload 4, 2) := by decide +kernel
set_option maxRecDepth 100000 in
theorem dX5_row_64 : decode cX5_row 64 = .ok (.ifnull 20, 3) := by decide +kernel
set_option maxRecDepth 100000 in
theorem dX5_row_67 : decode cX5_row 67 = .ok (.aload_n 0, 1) := by decide +kernel
set_option maxRecDepth 100000 in
theorem dX5_row_68 : decode cX5_row 68 = .ok (.aload 4, 2) := by decide +kernel
set_option maxRecDepth 100000 in
theorem dX5_row_70 : decode cX5_row 70 = .ok (.iload_n 3, 1) := by decide +kernel
set_option maxRecDepth 100000 in
theorem dX5_row_71 : decode cX5_row 71 = .ok (.invokevirtual 607, 3) := by decide +kernel
set_option maxRecDepth 100000 in
theorem dX5_row_74 : decode cX5_row 74 = .ok (.aload 4, 2) := by decide +kernel
set_option maxRecDepth 100000 in
theorem dX5_row_76 : decode cX5_row 76 = .ok (.getfield 307, 3) := by decide +kernel
set_option maxRecDepth 100000 in
theorem dX5_row_79 : decode cX5_row 79 = .ok (.astore 4, 2) := by decide +kernel
set_option maxRecDepth 100000 in
theorem dX5_row_81 : decode cX5_row 81 = .ok (.goto (-19), 3) := by decide +kernel
set_option maxRecDepth 100000 in
theorem dX5_row_84 : decode cX5_row 84 = .ok (.aload_n 0, 1) := by decide +kernel
set_option maxRecDepth 100000 in
theorem dX5_row_85 : decode cX5_row 85 = .ok (.getfield 296, 3) := by decide +kernel
set_option maxRecDepth 100000 in
theorem dX5_row_88 : decode cX5_row 88 = .ok (.dup, 1) := by decide +kernel
set_option maxRecDepth 100000 in
theorem dX5_row_89 : decode cX5_row 89 = .ok (.getfield 604, 3) := by decide +kernel
set_option maxRecDepth 100000 in
theorem dX5_row_92 : decode cX5_row 92 = .ok (.iconst 1, 1) := by decide +kernel
set_option maxRecDepth 100000 in
theorem dX5_row_93 : decode cX5_row 93 = .ok (.isub, 1) := by decide +kernel
set_option maxRecDepth 100000 in
theorem dX5_row_94 : decode cX5_row 94 = .ok (.putfield 604, 3) := by decide +kernel
set_option maxRecDepth 100000 in
theorem dX5_row_97 : decode cX5_row 97 = .ok (.return_, 1) := by decide +kernel
def lX5_row_62 (G : xG) (fr lo : Nat) (x0 : Nat) (x3 : Int32) (x4 : Nat) (h : xH) (Q : Outcome → xH → Prop) : Prop := xP G YX5_row fr lo 62 [(0, rv x0), (3, .int x3), (4, rv x4)] [] h Q
set_option maxRecDepth 100000 in
def bX5_row_62 (G : xG) (fr lo : Nat) (x0 : Nat) (x3 : Int32) (x4 : Nat) (h : xH) (Q : Outcome → xH → Prop) : Prop := ((x4 = 0 → tg h x0 = 6 ∧ tg h (fR h x0 1294) = 18 ∧ (∀ h4 : xH, h4 = sI h (fR h x0 1294) 4359 ((fI h (fR h x0 1294) 4359) - 1) → Q (.returned none) h4)) ∧ (¬ x4 = 0 → tg h x0 = 6 ∧ 1 ≤ fr ∧ 15 ≤ lo ∧ xRv G YX5_statementIn (fr - 1) (lo - 15) [rv x0, rv x4, .int x3] h (fun h9 => xext h h9 → tg h9 x4 = 16 ∧ lX5_row_62 G fr lo x0 x3 (fR h9 x4 3844) h9 Q) (fun r h2 => Q (.threw r) h2)))
set_option maxRecDepth 100000 in
theorem uX5_row_62 {G : xG} {fr lo : Nat} {x0 : Nat} {x3 : Int32} {x4 : Nat} {h : xH} {Q : Outcome → xH → Prop} (hq : bX5_row_62 G fr lo x0 x3 x4 h Q) : xP G YX5_row fr lo 62 [(0, rv x0), (3, .int x3), (4, rv x4)] [] h Q := by
  unfold bX5_row_62 at hq
  refine x_aload 2 dX5_row_62 rfl ?_
  refine x_ifnull (tgt := 84) dX5_row_64 (by decide) (fun c1 => ?_) (fun c1 => ?_)
  · replace hq := hq.1 c1
    refine x_aload_n 0 dX5_row_84 rfl ?_
    obtain ⟨g2, hq⟩ := hq
    refine x_get (v := rv (fR h x0 1294)) fdX5_296 dX5_row_85 g2 rfl ?_
    refine x_dup dX5_row_88 (rv_cat _) ?_
    obtain ⟨g3, hq⟩ := hq
    refine x_getN (v := .int (fI h (fR h x0 1294) 4359)) gfX5_604 dX5_row_89 g3 rfl ?_
    refine x_iconst (v := 1) dX5_row_92 (by decide) ?_
    refine x_isub dX5_row_93 ?_
    obtain ⟨h4, e5⟩ : ∃ y, y = sI h (fR h x0 1294) 4359 ((fI h (fR h x0 1294) 4359) - 1) := ⟨_, rfl⟩
    replace hq := hq h4 e5
    refine x_putNI gfX5_604 xty_I1 dX5_row_94 g3 (Or.inl (by rw [g3]; rfl)) xnI rfl e5 ?_
    exact x_vret rfl dX5_row_97 hq
  · replace hq := hq.2 c1
    refine x_aload_n 0 dX5_row_67 rfl ?_
    refine x_aload 2 dX5_row_68 rfl ?_
    refine x_iload_n 1 dX5_row_70 rfl ?_
    obtain ⟨g6, hq⟩ := hq
    obtain ⟨g7, g8, hq⟩ := hq
    refine x_callV (Yc := YX5_statementIn) (as := [rv x4, .int x3]) (st := []) q2502 mvX5_statementIn g6 rfl dX5_row_71 (xle (xal1 (rv_cat _) (xal1 (rv_cat _) (xal1 rfl xal0))) (by decide)) (xfr g7) (xlo xsw0 (by decide) g8) (xKv hq (fun h9 hq e11 => ?_) (fun _ _ q _ => q))
    replace hq := hq e11
    refine x_aload 2 dX5_row_74 rfl ?_
    obtain ⟨g12, hq⟩ := hq
    refine x_getN (v := rv (fR h9 x4 3844)) gfX5_307 dX5_row_76 g12 rfl ?_
    refine x_astore (lv' := [(4, rv (fR h9 x4 3844)), (0, rv x0), (3, .int x3)]) dX5_row_79 (by decide) rfl ?_
    refine x_goto (tgt := 62) dX5_row_81 (by decide) ?_
    refine xP.pick (lv' := [(0, rv x0), (3, .int x3), (4, rv (fR h9 x4 3844))]) [1, 2, 0] rfl ?_
    exact hq
set_option maxRecDepth 100000 in
def bX5_row_27 (G : xG) (fr lo : Nat) (x0 : Nat) (x1 : Nat) (x3 : Int32) (h : xH) (Q : Outcome → xH → Prop) : Prop := tg h x0 = 6 ∧ tg h (fR h x0 1294) = 18 ∧ tg h (fR h (fR h x0 1294) 4357) = 100 ∧ vp_in (fI h (fR h x0 1294) 4359) (ln h (fR h (fR h x0 1294) 4357)) ∧ (∀ h5 : xH, h5 = tI h (fR h (fR h x0 1294) 4357) (Int32.toNatClampNeg (fI h (fR h x0 1294) 4359)) x3 → tg h5 (fR h5 x0 1294) = 18 ∧ (∀ h9 : xH, h9 = sI h5 (fR h5 x0 1294) 4359 ((fI h5 (fR h5 x0 1294) 4359) + 1) → tg h9 x1 = 16 ∧ lX5_row_62 G fr lo x0 x3 (fR h9 x1 3842) h9 Q))
set_option maxRecDepth 100000 in
theorem uX5_row_27 {G : xG} {fr lo : Nat} {x0 : Nat} {x1 : Nat} {x3 : Int32} {h : xH} {Q : Outcome → xH → Prop} (hq : bX5_row_27 G fr lo x0 x1 x3 h Q) : xP G YX5_row fr lo 27 [(0, rv x0), (1, rv x1), (3, .int x3)] [] h Q := by
  unfold bX5_row_27 at hq
  refine x_aload_n 0 dX5_row_27 rfl ?_
  obtain ⟨g1, hq⟩ := hq
  refine x_get (v := rv (fR h x0 1294)) fdX5_296 dX5_row_28 g1 rfl ?_
  obtain ⟨g2, hq⟩ := hq
  refine x_getN (v := rv (fR h (fR h x0 1294) 4357)) gfX5_603 dX5_row_31 g2 rfl ?_
  refine x_aload_n 0 dX5_row_34 rfl ?_
  refine x_get (v := rv (fR h x0 1294)) fdX5_296 dX5_row_35 g1 rfl ?_
  refine x_getN (v := .int (fI h (fR h x0 1294) 4359)) gfX5_604 dX5_row_38 g2 rfl ?_
  refine x_iload_n 2 dX5_row_41 rfl ?_
  obtain ⟨g3, hq⟩ := hq
  obtain ⟨i4, hq⟩ := hq
  obtain ⟨h5, e6⟩ : ∃ y, y = tI h (fR h (fR h x0 1294) 4357) (Int32.toNatClampNeg (fI h (fR h x0 1294) 4359)) x3 := ⟨_, rfl⟩
  replace hq := hq h5 e6
  refine x_iast' g3 i4 dX5_row_42 e6 ?_
  refine x_aload_n 0 dX5_row_43 rfl ?_
  have t7 : tg h5 x0 = 6 := by rw [e6]; exact g1
  refine x_get (v := rv (fR h5 x0 1294)) fdX5_296 dX5_row_44 t7 rfl ?_
  refine x_dup dX5_row_47 (rv_cat _) ?_
  obtain ⟨g8, hq⟩ := hq
  refine x_getN (v := .int (fI h5 (fR h5 x0 1294) 4359)) gfX5_604 dX5_row_48 g8 rfl ?_
  refine x_iconst (v := 1) dX5_row_51 (by decide) ?_
  refine x_iadd dX5_row_52 ?_
  obtain ⟨h9, e10⟩ : ∃ y, y = sI h5 (fR h5 x0 1294) 4359 ((fI h5 (fR h5 x0 1294) 4359) + 1) := ⟨_, rfl⟩
  replace hq := hq h9 e10
  refine x_putNI gfX5_604 xty_I1 dX5_row_53 g8 (Or.inl (by rw [g8]; rfl)) xnI rfl e10 ?_
  refine x_aload_n 1 dX5_row_56 rfl ?_
  obtain ⟨g11, hq⟩ := hq
  refine x_getN (v := rv (fR h9 x1 3842)) gfX5_251 dX5_row_57 g11 rfl ?_
  refine x_astore (lv' := [(4, rv (fR h9 x1 3842)), (0, rv x0), (1, rv x1), (3, .int x3)]) dX5_row_60 (by decide) rfl ?_
  refine xP.pick (lv' := [(0, rv x0), (3, .int x3), (4, rv (fR h9 x1 3842))]) [1, 3, 0] rfl ?_
  exact hq
set_option maxRecDepth 100000 in
def bX5_row (G : xG) (fr lo : Nat) (x0 : Nat) (x1 : Nat) (x2 : Int32) (h : xH) (Q : Outcome → xH → Prop) : Prop := tg h x0 = 6 ∧ (∀ h2 : xH, h2 = sI h x0 1307 ((fI h x0 1307) + 1) → ((x2 = 0 → bX5_row_27 G fr lo x0 x1 (fI h2 x0 1307) h2 Q) ∧ (¬ x2 = 0 → tg h2 (fR h2 x0 1294) = 18 ∧ (∀ h7 : xH, h7 = sI h2 (fR h2 x0 1294) 4362 (fI h2 x0 1307) → bX5_row_27 G fr lo x0 x1 (fI h2 x0 1307) h7 Q))))
set_option maxRecDepth 100000 in
theorem uX5_row {G : xG} {fr lo : Nat} {x0 : Nat} {x1 : Nat} {x2 : Int32} {h : xH} {Q : Outcome → xH → Prop} (hq : bX5_row G fr lo x0 x1 x2 h Q) : xP G YX5_row fr lo 0 [(0, rv x0), (1, rv x1), (2, .int x2)] [] h Q := by
  unfold bX5_row at hq
  refine x_aload_n 0 dX5_row_0 rfl ?_
  refine x_dup dX5_row_1 (rv_cat _) ?_
  obtain ⟨g1, hq⟩ := hq
  refine x_get (v := .int (fI h x0 1307)) fdX5_429 dX5_row_2 g1 rfl ?_
  refine x_iconst (v := 1) dX5_row_5 (by decide) ?_
  refine x_iadd dX5_row_6 ?_
  obtain ⟨h2, e3⟩ : ∃ y, y = sI h x0 1307 ((fI h x0 1307) + 1) := ⟨_, rfl⟩
  replace hq := hq h2 e3
  refine x_putI fdX5_429 xty_I1 dX5_row_7 g1 (Or.inl (by rw [g1]; rfl)) xnI rfl e3 ?_
  refine x_aload_n 0 dX5_row_10 rfl ?_
  have t4 : tg h2 x0 = 6 := by rw [e3]; exact g1
  refine x_get (v := .int (fI h2 x0 1307)) fdX5_429 dX5_row_11 t4 rfl ?_
  refine x_istore_n (lv' := [(3, .int (fI h2 x0 1307)), (0, rv x0), (1, rv x1), (2, .int x2)]) dX5_row_14 (by decide) rfl ?_
  refine x_iload_n 3 dX5_row_15 rfl ?_
  refine x_if_eq (tgt := 27) dX5_row_16 (by decide) (fun c5 => ?_) (fun c5 => ?_)
  · replace hq := hq.1 c5
    refine xP.pick (lv' := [(0, rv x0), (1, rv x1), (3, .int (fI h2 x0 1307))]) [1, 2, 0] rfl ?_
    exact uX5_row_27 hq
  · replace hq := hq.2 c5
    refine x_aload_n 1 dX5_row_19 rfl ?_
    refine x_get (v := rv (fR h2 x0 1294)) fdX5_296 dX5_row_20 t4 rfl ?_
    refine x_iload_n 0 dX5_row_23 rfl ?_
    obtain ⟨g6, hq⟩ := hq
    obtain ⟨h7, e8⟩ : ∃ y, y = sI h2 (fR h2 x0 1294) 4362 (fI h2 x0 1307) := ⟨_, rfl⟩
    replace hq := hq h7 e8
    refine x_putNI gfX5_587 xty_I1 dX5_row_24 g6 (Or.inl (by rw [g6]; rfl)) xnI rfl e8 ?_
    refine xP.pick (lv' := [(0, rv x0), (1, rv x1), (3, .int (fI h2 x0 1307))]) [1, 2, 0] rfl ?_
    exact uX5_row_27 hq
theorem rX5_row {G : xG} {fr lo : Nat} {x0 : Nat} {x1 : Nat} {x2 : Int32} {h : xH} {Q : Outcome → xH → Prop} (hq : bX5_row G fr lo x0 x1 x2 h Q) : xR G YX5_row fr lo [rv x0, rv x1, .int x2] h Q := by
  show xP _ _ _ _ _ (lv_args 0 _) _ _ _
  rw [show lv_args 0 [rv x0, rv x1, .int x2] = [(0, rv x0), (1, rv x1), (2, .int x2)] from (xla1 (rv_cat _) (xla1 (rv_cat _) (xla1 rfl xla0)))]
  exact uX5_row hq
set_option maxRecDepth 100000 in
theorem dX5_statementIn_0 : decode cX5_statementIn 0 = .ok (.aload_n 1, 1) := by decide +kernel
set_option maxRecDepth 100000 in
theorem dX5_statementIn_1 : decode cX5_statementIn 1 = .ok (.getfield 264, 3) := by decide +kernel
set_option maxRecDepth 100000 in
theorem dX5_statementIn_4 : decode cX5_statementIn 4 = .ok (.bipush 27, 2) := by decide +kernel
set_option maxRecDepth 100000 in
theorem dX5_statementIn_6 : decode cX5_statementIn 6 = .ok (.if_icmp .eq 9, 3) := by decide +kernel
set_option maxRecDepth 100000 in
theorem dX5_statementIn_9 : decode cX5_statementIn 9 = .ok (.aload_n 0, 1) := by decide +kernel
set_option maxRecDepth 100000 in
theorem dX5_statementIn_10 : decode cX5_statementIn 10 = .ok (.aload_n 1, 1) := by decide +kernel
set_option maxRecDepth 100000 in
theorem dX5_statementIn_11 : decode cX5_statementIn 11 = .ok (.invokevirtual 613, 3) := by decide +kernel
set_option maxRecDepth 100000 in
theorem dX5_statementIn_14 : decode cX5_statementIn 14 = .ok (.return_, 1) := by decide +kernel
set_option maxRecDepth 100000 in
theorem dX5_statementIn_15 : decode cX5_statementIn 15 = .ok (.aload_n 1, 1) := by decide +kernel
set_option maxRecDepth 100000 in
theorem dX5_statementIn_16 : decode cX5_statementIn 16 = .ok (.getfield 202, 3) := by decide +kernel
set_option maxRecDepth 100000 in
theorem dX5_statementIn_19 : decode cX5_statementIn 19 = .ok (.getfield 219, 3) := by decide +kernel
set_option maxRecDepth 100000 in
theorem dX5_statementIn_22 : decode cX5_statementIn 22 = .ok (.sipush 9999, 3) := by decide +kernel
set_option maxRecDepth 100000 in
theorem dX5_statementIn_25 : decode cX5_statementIn 25 = .ok (.if_icmp .le 7, 3) := by decide +kernel
set_option maxRecDepth 100000 in
theorem dX5_statementIn_28 : decode cX5_statementIn 28 = .ok (.aconst_null, 1) := by decide +kernel
set_option maxRecDepth 100000 in
theorem dX5_statementIn_29 : decode cX5_statementIn 29 = .ok (.goto 17, 3) := by decide +kernel
set_option maxRecDepth 100000 in
theorem dX5_statementIn_32 : decode cX5_statementIn 32 = .ok (.aload_n 0, 1) := by decide +kernel
set_option maxRecDepth 100000 in
theorem dX5_statementIn_33 : decode cX5_statementIn 33 = .ok (.getfield 296, 3) := by decide +kernel
set_option maxRecDepth 100000 in
theorem dX5_statementIn_36 : decode cX5_statementIn 36 = .ok (.aload_n 1, 1) := by decide +kernel
set_option maxRecDepth 100000 in
theorem dX5_statementIn_37 : decode cX5_statementIn 37 = .ok (.getfield 202, 3) := by decide +kernel
set_option maxRecDepth 100000 in
theorem dX5_statementIn_40 : decode cX5_statementIn 40 = .ok (.getfield 219, 3) := by decide +kernel
set_option maxRecDepth 100000 in
theorem dX5_statementIn_43 : decode cX5_statementIn 43 = .ok (.invokevirtual 464, 3) := by decide +kernel
set_option maxRecDepth 100000 in
theorem dX5_statementIn_46 : decode cX5_statementIn 46 = .ok (.astore_n 3, 1) := by decide +kernel
set_option maxRecDepth 100000 in
theorem dX5_statementIn_47 : decode cX5_statementIn 47 = .ok (.aload_n 3, 1) := by decide +kernel
set_option maxRecDepth 100000 in
theorem dX5_statementIn_48 : decode cX5_statementIn 48 = .ok (.ifnull 10, 3) := by decide +kernel
set_option maxRecDepth 100000 in
theorem dX5_statementIn_51 : decode cX5_statementIn 51 = .ok (.aload_n 3, 1) := by decide +kernel
set_option maxRecDepth 100000 in
theorem dX5_statementIn_52 : decode cX5_statementIn 52 = .ok (.getfield 578, 3) := by decide +kernel
set_option maxRecDepth 100000 in
theorem dX5_statementIn_55 : decode cX5_statementIn 55 = .ok (.ifCond .eq 14, 3) := by decide +kernel
set_option maxRecDepth 100000 in
theorem dX5_statementIn_58 : decode cX5_statementIn 58 = .ok (.aload_n 0, 1) := by decide +kernel
set_option maxRecDepth 100000 in
theorem dX5_statementIn_59 : decode cX5_statementIn 59 = .ok (.bipush 12, 2) := by decide +kernel
set_option maxRecDepth 100000 in
theorem dX5_statementIn_61 : decode cX5_statementIn 61 = .ok (.aload_n 1, 1) := by decide +kernel
set_option maxRecDepth 100000 in
theorem dX5_statementIn_62 : decode cX5_statementIn 62 = .ok (.invokevirtual 192, 3) := by decide +kernel
set_option maxRecDepth 100000 in
theorem dX5_statementIn_65 : decode cX5_statementIn 65 = .ok (.invokevirtual 163, 3) := by decide +kernel
set_option maxRecDepth 100000 in
theorem dX5_statementIn_68 : decode cX5_statementIn 68 = .ok (.athrow, 1) := by decide +kernel
set_option maxRecDepth 100000 in
theorem dX5_statementIn_69 : decode cX5_statementIn 69 = .ok (.aload_n 0, 1) := by decide +kernel
set_option maxRecDepth 100000 in
theorem dX5_statementIn_70 : decode cX5_statementIn 70 = .ok (.dup, 1) := by decide +kernel
set_option maxRecDepth 100000 in
theorem dX5_statementIn_71 : decode cX5_statementIn 71 = .ok (.getfield 432, 3) := by decide +kernel
set_option maxRecDepth 100000 in
theorem dX5_statementIn_74 : decode cX5_statementIn 74 = .ok (.iconst 1, 1) := by decide +kernel
set_option maxRecDepth 100000 in
theorem dX5_statementIn_75 : decode cX5_statementIn 75 = .ok (.iadd, 1) := by decide +kernel
set_option maxRecDepth 100000 in
theorem dX5_statementIn_76 : decode cX5_statementIn 76 = .ok (.putfield 432, 3) := by decide +kernel
set_option maxRecDepth 100000 in
theorem dX5_statementIn_79 : decode cX5_statementIn 79 = .ok (.aload_n 3, 1) := by decide +kernel
set_option maxRecDepth 100000 in
theorem dX5_statementIn_80 : decode cX5_statementIn 80 = .ok (.iconst 1, 1) := by decide +kernel
set_option maxRecDepth 100000 in
theorem dX5_statementIn_81 : decode cX5_statementIn 81 = .ok (.putfield 578, 3) := by decide +kernel
set_option maxRecDepth 100000 in
theorem dX5_statementIn_84 : decode cX5_statementIn 84 = .ok (.aload_n 3, 1) := by decide +kernel
set_option maxRecDepth 100000 in
theorem dX5_statementIn_85 : decode cX5_statementIn 85 = .ok (.iload_n 2, 1) := by decide +kernel
set_option maxRecDepth 100000 in
theorem dX5_statementIn_86 : decode cX5_statementIn 86 = .ok (.putfield 584, 3) := by decide +kernel
set_option maxRecDepth 100000 in
theorem dX5_statementIn_89 : decode cX5_statementIn 89 = .ok (.aload_n 3, 1) := by decide +kernel
set_option maxRecDepth 100000 in
theorem dX5_statementIn_90 : decode cX5_statementIn 90 = .ok (.aload_n 0, 1) := by decide +kernel
set_option maxRecDepth 100000 in
theorem dX5_statementIn_91 : decode cX5_statementIn 91 = .ok (.getfield 432, 3) := by decide +kernel
set_option maxRecDepth 100000 in
theorem dX5_statementIn_94 : decode cX5_statementIn 94 = .ok (.putfield 594, 3) := by decide +kernel
set_option maxRecDepth 100000 in
theorem dX5_statementIn_97 : decode cX5_statementIn 97 = .ok (.aload_n 0, 1) := by decide +kernel
set_option maxRecDepth 100000 in
theorem dX5_statementIn_98 : decode cX5_statementIn 98 = .ok (.getfield 62, 3) := by decide +kernel
set_option maxRecDepth 100000 in
theorem dX5_statementIn_101 : decode cX5_statementIn 101 = .ok (.getfield 616, 3) := by decide +kernel
set_option maxRecDepth 100000 in
theorem dX5_statementIn_104 : decode cX5_statementIn 104 = .ok (.aload_n 3, 1) := by decide +kernel
set_option maxRecDepth 100000 in
theorem dX5_statementIn_105 : decode cX5_statementIn 105 = .ok (.getfield 618, 3) := by decide +kernel
set_option maxRecDepth 100000 in
theorem dX5_statementIn_108 : decode cX5_statementIn 108 = .ok (.aload_n 0, 1) := by decide +kernel
set_option maxRecDepth 100000 in
theorem dX5_statementIn_109 : decode cX5_statementIn 109 = .ok (.getfield 62, 3) := by decide +kernel
set_option maxRecDepth 100000 in
theorem dX5_statementIn_112 : decode cX5_statementIn 112 = .ok (.getfield 501, 3) := by decide +kernel
set_option maxRecDepth 100000 in
theorem dX5_statementIn_115 : decode cX5_statementIn 115 = .ok (.iastore, 1) := by decide +kernel
set_option maxRecDepth 100000 in
theorem dX5_statementIn_116 : decode cX5_statementIn 116 = .ok (.aload_n 0, 1) := by decide +kernel
set_option maxRecDepth 100000 in
theorem dX5_statementIn_117 : decode cX5_statementIn 117 = .ok (.getfield 296, 3) := by decide +kernel
set_option maxRecDepth 100000 in
theorem dX5_statementIn_120 : decode cX5_statementIn 120 = .ok (.getfield 620, 3) := by decide +kernel
set_option maxRecDepth 100000 in
theorem dX5_statementIn_123 : decode cX5_statementIn 123 = .ok (.aload_n 0, 1) := by decide +kernel
set_option maxRecDepth 100000 in
theorem dX5_statementIn_124 : decode cX5_statementIn 124 = .ok (.getfield 296, 3) := by decide +kernel
set_option maxRecDepth 100000 in
theorem dX5_statementIn_127 : decode cX5_statementIn 127 = .ok (.getfield 621, 3) := by decide +kernel
set_option maxRecDepth 100000 in
theorem dX5_statementIn_130 : decode cX5_statementIn 130 = .ok (.aload_n 0, 1) := by decide +kernel
set_option maxRecDepth 100000 in
theorem dX5_statementIn_131 : decode cX5_statementIn 131 = .ok (.getfield 432, 3) := by decide +kernel
set_option maxRecDepth 100000 in
theorem dX5_statementIn_134 : decode cX5_statementIn 134 = .ok (.iastore, 1) := by decide +kernel
set_option maxRecDepth 100000 in
theorem dX5_statementIn_135 : decode cX5_statementIn 135 = .ok (.aload_n 0, 1) := by decide +kernel
set_option maxRecDepth 100000 in
theorem dX5_statementIn_136 : decode cX5_statementIn 136 = .ok (.getfield 296, 3) := by decide +kernel
set_option maxRecDepth 100000 in
theorem dX5_statementIn_139 : decode cX5_statementIn 139 = .ok (.dup, 1) := by decide +kernel
set_option maxRecDepth 100000 in
theorem dX5_statementIn_140 : decode cX5_statementIn 140 = .ok (.getfield 621, 3) := by decide +kernel
set_option maxRecDepth 100000 in
theorem dX5_statementIn_143 : decode cX5_statementIn 143 = .ok (.iconst 1, 1) := by decide +kernel
set_option maxRecDepth 100000 in
theorem dX5_statementIn_144 : decode cX5_statementIn 144 = .ok (.iadd, 1) := by decide +kernel
set_option maxRecDepth 100000 in
theorem dX5_statementIn_145 : decode cX5_statementIn 145 = .ok (.putfield 621, 3) := by decide +kernel
set_option maxRecDepth 100000 in
theorem dX5_statementIn_148 : decode cX5_statementIn 148 = .ok (.aload_n 0, 1) := by decide +kernel
set_option maxRecDepth 100000 in
theorem dX5_statementIn_149 : decode cX5_statementIn 149 = .ok (.aload_n 1, 1) := by decide +kernel
set_option maxRecDepth 100000 in
theorem dX5_statementIn_150 : decode cX5_statementIn 150 = .ok (.getfield 251, 3) := by decide +kernel
set_option maxRecDepth 100000 in
theorem dX5_statementIn_153 : decode cX5_statementIn 153 = .ok (.invokevirtual 613, 3) := by decide +kernel
set_option maxRecDepth 100000 in
theorem dX5_statementIn_156 : decode cX5_statementIn 156 = .ok (.aload_n 0, 1) := by decide +kernel
set_option maxRecDepth 100000 in
theorem dX5_statementIn_157 : decode cX5_statementIn 157 = .ok (.getfield 296, 3) := by decide +kernel
set_option maxRecDepth 100000 in
theorem dX5_statementIn_160 : decode cX5_statementIn 160 = .ok (.dup, 1) := by decide +kernel
set_option maxRecDepth 100000 in
theorem dX5_statementIn_161 : decode cX5_statementIn 161 = .ok (.getfield 621, 3) := by decide +kernel
set_option maxRecDepth 100000 in
theorem dX5_statementIn_164 : decode cX5_statementIn 164 = .ok (.iconst 1, 1) := by decide +kernel
set_option maxRecDepth 100000 in
theorem dX5_statementIn_165 : decode cX5_statementIn 165 = .ok (.isub, 1) := by decide +kernel
set_option maxRecDepth 100000 in
theorem dX5_statementIn_166 : decode cX5_statementIn 166 = .ok (.putfield 621, 3) := by decide +kernel
set_option maxRecDepth 100000 in
theorem dX5_statementIn_169 : decode cX5_statementIn 169 = .ok (.return_, 1) := by decide +kernel
set_option maxRecDepth 100000 in
def bX5_statementIn_58 (G : xG) (fr lo : Nat) (x0 : Nat) (x1 : Nat) (h : xH) (Q : Outcome → xH → Prop) : Prop := tg h x1 = 16 ∧ 1 ≤ fr ∧ 14 ≤ lo ∧ xRi G YX15_place (fr - 1) (lo - 14) [rv x1] h (fun x5 h4 => xext h h4 → tg h4 x0 = 6 ∧ 1 ≤ fr ∧ 14 ≤ lo ∧ xRr G YX5_fault (fr - 1) (lo - 14) [rv x0, .int 12, .int x5] h4 (fun x11 h10 => xext h4 h10 → (∃ r13, x11 = r13 + 1 ∧ Q (.threw r13) h10)) (fun r h2 => Q (.threw r) h2)) (fun r h2 => Q (.threw r) h2)
set_option maxRecDepth 100000 in
theorem uX5_statementIn_58 {G : xG} {fr lo : Nat} {x0 : Nat} {x1 : Nat} {h : xH} {Q : Outcome → xH → Prop} (hq : bX5_statementIn_58 G fr lo x0 x1 h Q) : xP G YX5_statementIn fr lo 58 [(0, rv x0), (1, rv x1)] [] h Q := by
  unfold bX5_statementIn_58 at hq
  refine x_aload_n 0 dX5_statementIn_58 rfl ?_
  refine x_bipush (v := 12) dX5_statementIn_59 (by decide) ?_
  refine x_aload_n 1 dX5_statementIn_61 rfl ?_
  obtain ⟨g1, hq⟩ := hq
  obtain ⟨g2, g3, hq⟩ := hq
  refine x_callV (Yc := YX15_place) (as := []) (st := [.int 12, rv x0]) q2013 mvX15_place g1 rfl dX5_statementIn_62 (xle (xal1 (rv_cat _) xal0) (by decide)) (xfr g2) (xlo (xsw1 rfl (xsw1 (rv_cat _) xsw0)) (by decide) g3) (xKi hq (fun x5 h4 hq e6 => ?_) (fun _ _ q _ => q))
  replace hq := hq e6
  obtain ⟨g7, hq⟩ := hq
  obtain ⟨g8, g9, hq⟩ := hq
  refine x_callV (Yc := YX5_fault) (as := [.int 12, .int x5]) (st := []) q2087 mvX5_fault g7 rfl dX5_statementIn_65 (xle (xal1 (rv_cat _) (xal1 rfl (xal1 rfl xal0))) (by decide)) (xfr g8) (xlo xsw0 (by decide) g9) (xKr hq (fun x11 h10 hq e12 => ?_) (fun _ _ q _ => q))
  replace hq := hq e12
  obtain ⟨r13, g14, hq⟩ := hq
  rw [g14]
  exact x_athrow dX5_statementIn_68 hq
set_option maxRecDepth 100000 in
def bX5_statementIn_46 (G : xG) (fr lo : Nat) (x0 : Nat) (x1 : Nat) (x2 : Int32) (s0 : Nat) (h : xH) (Q : Outcome → xH → Prop) : Prop := ((s0 = 0 → bX5_statementIn_58 G fr lo x0 x1 h Q) ∧ (¬ s0 = 0 → tg h s0 = 19 ∧ (((fI h s0 4610) = 0 → tg h x0 = 6 ∧ (∀ h5 : xH, h5 = sI h x0 1308 ((fI h x0 1308) + 1) → (∀ h8 : xH, h8 = sI h5 s0 4610 1 → (∀ h11 : xH, h11 = sI h8 s0 4611 x2 → (∀ h17 : xH, h17 = sI h11 s0 4612 (fI h11 x0 1308) → tg h17 (fR h17 x0 1281) = 3 ∧ tg h17 (fR h17 (fR h17 x0 1281) 527) = 100 ∧ vp_in (fI h17 s0 4609) (ln h17 (fR h17 (fR h17 x0 1281) 527)) ∧ (∀ h24 : xH, h24 = tI h17 (fR h17 (fR h17 x0 1281) 527) (Int32.toNatClampNeg (fI h17 s0 4609)) (fI h17 (fR h17 x0 1281) 517) → tg h24 (fR h24 x0 1294) = 18 ∧ tg h24 (fR h24 (fR h24 x0 1294) 4358) = 100 ∧ vp_in (fI h24 (fR h24 x0 1294) 4360) (ln h24 (fR h24 (fR h24 x0 1294) 4358)) ∧ (∀ h30 : xH, h30 = tI h24 (fR h24 (fR h24 x0 1294) 4358) (Int32.toNatClampNeg (fI h24 (fR h24 x0 1294) 4360)) (fI h24 x0 1308) → tg h30 (fR h30 x0 1294) = 18 ∧ (∀ h34 : xH, h34 = sI h30 (fR h30 x0 1294) 4360 ((fI h30 (fR h30 x0 1294) 4360) + 1) → tg h34 x1 = 16 ∧ 1 ≤ fr ∧ 14 ≤ lo ∧ xRv G YX5_plain (fr - 1) (lo - 14) [rv x0, rv (fR h34 x1 3842)] h34 (fun h40 => xext h34 h40 → tg h40 (fR h40 x0 1294) = 18 ∧ (∀ h45 : xH, h45 = sI h40 (fR h40 x0 1294) 4360 ((fI h40 (fR h40 x0 1294) 4360) - 1) → Q (.returned none) h45)) (fun r h2 => Q (.threw r) h2))))))))) ∧ (¬ (fI h s0 4610) = 0 → bX5_statementIn_58 G fr lo x0 x1 h Q))))
set_option maxRecDepth 100000 in
theorem uX5_statementIn_46 {G : xG} {fr lo : Nat} {x0 : Nat} {x1 : Nat} {x2 : Int32} {s0 : Nat} {h : xH} {Q : Outcome → xH → Prop} (hq : bX5_statementIn_46 G fr lo x0 x1 x2 s0 h Q) : xP G YX5_statementIn fr lo 46 [(0, rv x0), (1, rv x1), (2, .int x2)] [rv s0] h Q := by
  unfold bX5_statementIn_46 at hq
  refine x_astore_n (lv' := [(3, rv s0), (0, rv x0), (1, rv x1), (2, .int x2)]) dX5_statementIn_46 (by decide) rfl ?_
  refine x_aload_n 0 dX5_statementIn_47 rfl ?_
  refine x_ifnull (tgt := 58) dX5_statementIn_48 (by decide) (fun c1 => ?_) (fun c1 => ?_)
  · replace hq := hq.1 c1
    refine xP.pick (lv' := [(0, rv x0), (1, rv x1)]) [1, 2] rfl ?_
    exact uX5_statementIn_58 hq
  · replace hq := hq.2 c1
    refine x_aload_n 0 dX5_statementIn_51 rfl ?_
    obtain ⟨g2, hq⟩ := hq
    refine x_getN (v := .int (fI h s0 4610)) gfX5_578 dX5_statementIn_52 g2 rfl ?_
    refine x_if_eq (tgt := 69) dX5_statementIn_55 (by decide) (fun c3 => ?_) (fun c3 => ?_)
    · replace hq := hq.1 c3
      refine x_aload_n 1 dX5_statementIn_69 rfl ?_
      refine x_dup dX5_statementIn_70 (rv_cat _) ?_
      obtain ⟨g4, hq⟩ := hq
      refine x_get (v := .int (fI h x0 1308)) fdX5_432 dX5_statementIn_71 g4 rfl ?_
      refine x_iconst (v := 1) dX5_statementIn_74 (by decide) ?_
      refine x_iadd dX5_statementIn_75 ?_
      obtain ⟨h5, e6⟩ : ∃ y, y = sI h x0 1308 ((fI h x0 1308) + 1) := ⟨_, rfl⟩
      replace hq := hq h5 e6
      refine x_putI fdX5_432 xty_I1 dX5_statementIn_76 g4 (Or.inl (by rw [g4]; rfl)) xnI rfl e6 ?_
      refine x_aload_n 0 dX5_statementIn_79 rfl ?_
      refine x_iconst (v := 1) dX5_statementIn_80 (by decide) ?_
      have t7 : tg h5 s0 = 19 := by rw [e6]; exact g2
      obtain ⟨h8, e9⟩ : ∃ y, y = sI h5 s0 4610 1 := ⟨_, rfl⟩
      replace hq := hq h8 e9
      refine x_putNI gfX5_578 xty_Z1 dX5_statementIn_81 t7 (Or.inl (by rw [t7]; rfl)) (xnB (Or.inr rfl)) rfl e9 ?_
      refine x_aload_n 0 dX5_statementIn_84 rfl ?_
      refine x_iload_n 3 dX5_statementIn_85 rfl ?_
      have t10 : tg h8 s0 = 19 := by rw [e9]; exact t7
      obtain ⟨h11, e12⟩ : ∃ y, y = sI h8 s0 4611 x2 := ⟨_, rfl⟩
      replace hq := hq h11 e12
      refine x_putNI gfX5_584 xty_I1 dX5_statementIn_86 t10 (Or.inl (by rw [t10]; rfl)) xnI rfl e12 ?_
      refine x_aload_n 0 dX5_statementIn_89 rfl ?_
      refine x_aload_n 1 dX5_statementIn_90 rfl ?_
      have t13 : tg h5 x0 = 6 := by rw [e6]; exact g4
      have t14 : tg h8 x0 = 6 := by rw [e9]; exact t13
      have t15 : tg h11 x0 = 6 := by rw [e12]; exact t14
      refine x_get (v := .int (fI h11 x0 1308)) fdX5_432 dX5_statementIn_91 t15 rfl ?_
      have t16 : tg h11 s0 = 19 := by rw [e12]; exact t10
      obtain ⟨h17, e18⟩ : ∃ y, y = sI h11 s0 4612 (fI h11 x0 1308) := ⟨_, rfl⟩
      replace hq := hq h17 e18
      refine x_putNI gfX5_594 xty_I1 dX5_statementIn_94 t16 (Or.inl (by rw [t16]; rfl)) xnI rfl e18 ?_
      refine x_aload_n 1 dX5_statementIn_97 rfl ?_
      have t19 : tg h17 x0 = 6 := by rw [e18]; exact t15
      refine x_get (v := rv (fR h17 x0 1281)) fdX5_62 dX5_statementIn_98 t19 rfl ?_
      obtain ⟨g20, hq⟩ := hq
      refine x_getN (v := rv (fR h17 (fR h17 x0 1281) 527)) gfX5_616 dX5_statementIn_101 g20 rfl ?_
      refine x_aload_n 0 dX5_statementIn_104 rfl ?_
      have t21 : tg h17 s0 = 19 := by rw [e18]; exact t16
      refine x_getN (v := .int (fI h17 s0 4609)) gfX5_618 dX5_statementIn_105 t21 rfl ?_
      refine x_aload_n 1 dX5_statementIn_108 rfl ?_
      refine x_get (v := rv (fR h17 x0 1281)) fdX5_62 dX5_statementIn_109 t19 rfl ?_
      refine x_getN (v := .int (fI h17 (fR h17 x0 1281) 517)) gfX5_501 dX5_statementIn_112 g20 rfl ?_
      obtain ⟨g22, hq⟩ := hq
      obtain ⟨i23, hq⟩ := hq
      obtain ⟨h24, e25⟩ : ∃ y, y = tI h17 (fR h17 (fR h17 x0 1281) 527) (Int32.toNatClampNeg (fI h17 s0 4609)) (fI h17 (fR h17 x0 1281) 517) := ⟨_, rfl⟩
      replace hq := hq h24 e25
      refine x_iast' g22 i23 dX5_statementIn_115 e25 ?_
      refine x_aload_n 1 dX5_statementIn_116 rfl ?_
      have t26 : tg h24 x0 = 6 := by rw [e25]; exact t19
      refine x_get (v := rv (fR h24 x0 1294)) fdX5_296 dX5_statementIn_117 t26 rfl ?_
      obtain ⟨g27, hq⟩ := hq
      refine x_getN (v := rv (fR h24 (fR h24 x0 1294) 4358)) gfX5_620 dX5_statementIn_120 g27 rfl ?_
      refine x_aload_n 1 dX5_statementIn_123 rfl ?_
      refine x_get (v := rv (fR h24 x0 1294)) fdX5_296 dX5_statementIn_124 t26 rfl ?_
      refine x_getN (v := .int (fI h24 (fR h24 x0 1294) 4360)) gfX5_621 dX5_statementIn_127 g27 rfl ?_
      refine x_aload_n 1 dX5_statementIn_130 rfl ?_
      refine x_get (v := .int (fI h24 x0 1308)) fdX5_432 dX5_statementIn_131 t26 rfl ?_
      obtain ⟨g28, hq⟩ := hq
      obtain ⟨i29, hq⟩ := hq
      obtain ⟨h30, e31⟩ : ∃ y, y = tI h24 (fR h24 (fR h24 x0 1294) 4358) (Int32.toNatClampNeg (fI h24 (fR h24 x0 1294) 4360)) (fI h24 x0 1308) := ⟨_, rfl⟩
      replace hq := hq h30 e31
      refine x_iast' g28 i29 dX5_statementIn_134 e31 ?_
      refine x_aload_n 1 dX5_statementIn_135 rfl ?_
      have t32 : tg h30 x0 = 6 := by rw [e31]; exact t26
      refine x_get (v := rv (fR h30 x0 1294)) fdX5_296 dX5_statementIn_136 t32 rfl ?_
      refine x_dup dX5_statementIn_139 (rv_cat _) ?_
      obtain ⟨g33, hq⟩ := hq
      refine x_getN (v := .int (fI h30 (fR h30 x0 1294) 4360)) gfX5_621 dX5_statementIn_140 g33 rfl ?_
      refine x_iconst (v := 1) dX5_statementIn_143 (by decide) ?_
      refine x_iadd dX5_statementIn_144 ?_
      obtain ⟨h34, e35⟩ : ∃ y, y = sI h30 (fR h30 x0 1294) 4360 ((fI h30 (fR h30 x0 1294) 4360) + 1) := ⟨_, rfl⟩
      replace hq := hq h34 e35
      refine x_putNI gfX5_621 xty_I1 dX5_statementIn_145 g33 (Or.inl (by rw [g33]; rfl)) xnI rfl e35 ?_
      refine x_aload_n 1 dX5_statementIn_148 rfl ?_
      refine x_aload_n 2 dX5_statementIn_149 rfl ?_
      obtain ⟨g36, hq⟩ := hq
      refine x_getN (v := rv (fR h34 x1 3842)) gfX5_251 dX5_statementIn_150 g36 rfl ?_
      have t37 : tg h34 x0 = 6 := by rw [e35]; exact t32
      obtain ⟨g38, g39, hq⟩ := hq
      refine x_callV (Yc := YX5_plain) (as := [rv (fR h34 x1 3842)]) (st := []) q2506 mvX5_plain t37 rfl dX5_statementIn_153 (xle (xal1 (rv_cat _) (xal1 (rv_cat _) xal0)) (by decide)) (xfr g38) (xlo xsw0 (by decide) g39) (xKv hq (fun h40 hq e42 => ?_) (fun _ _ q _ => q))
      replace hq := hq e42
      refine x_aload_n 1 dX5_statementIn_156 rfl ?_
      have t43 : tg h40 x0 = 6 := e42.tg t37 (by decide)
      refine x_get (v := rv (fR h40 x0 1294)) fdX5_296 dX5_statementIn_157 t43 rfl ?_
      refine x_dup dX5_statementIn_160 (rv_cat _) ?_
      obtain ⟨g44, hq⟩ := hq
      refine x_getN (v := .int (fI h40 (fR h40 x0 1294) 4360)) gfX5_621 dX5_statementIn_161 g44 rfl ?_
      refine x_iconst (v := 1) dX5_statementIn_164 (by decide) ?_
      refine x_isub dX5_statementIn_165 ?_
      obtain ⟨h45, e46⟩ : ∃ y, y = sI h40 (fR h40 x0 1294) 4360 ((fI h40 (fR h40 x0 1294) 4360) - 1) := ⟨_, rfl⟩
      replace hq := hq h45 e46
      refine x_putNI gfX5_621 xty_I1 dX5_statementIn_166 g44 (Or.inl (by rw [g44]; rfl)) xnI rfl e46 ?_
      exact x_vret rfl dX5_statementIn_169 hq
    · replace hq := hq.2 c3
      refine xP.pick (lv' := [(0, rv x0), (1, rv x1)]) [1, 2] rfl ?_
      exact uX5_statementIn_58 hq
set_option maxRecDepth 100000 in
def bX5_statementIn (G : xG) (fr lo : Nat) (x0 : Nat) (x1 : Nat) (x2 : Int32) (h : xH) (Q : Outcome → xH → Prop) : Prop := tg h x1 = 16 ∧ (((fI h x1 3840) = 27 → tg h (fR h x1 3841) = 15 ∧ (((fI h (fR h x1 3841) 3587) ≤ 9999 → tg h x0 = 6 ∧ tg h (fR h x0 1294) = 18 ∧ 1 ≤ fr ∧ 14 ≤ lo ∧ xRr G YX17_label (fr - 1) (lo - 14) [rv (fR h x0 1294), .int (fI h (fR h x1 3841) 3587)] h (fun x10 h9 => xext h h9 → bX5_statementIn_46 G fr lo x0 x1 x2 x10 h9 Q) (fun r h2 => Q (.threw r) h2)) ∧ (¬ (fI h (fR h x1 3841) 3587) ≤ 9999 → bX5_statementIn_46 G fr lo x0 x1 x2 0 h Q))) ∧ (¬ (fI h x1 3840) = 27 → tg h x0 = 6 ∧ 1 ≤ fr ∧ 14 ≤ lo ∧ xRv G YX5_plain (fr - 1) (lo - 14) [rv x0, rv x1] h (fun h15 => xext h h15 → Q (.returned none) h15) (fun r h2 => Q (.threw r) h2)))
set_option maxRecDepth 100000 in
theorem uX5_statementIn {G : xG} {fr lo : Nat} {x0 : Nat} {x1 : Nat} {x2 : Int32} {h : xH} {Q : Outcome → xH → Prop} (hq : bX5_statementIn G fr lo x0 x1 x2 h Q) : xP G YX5_statementIn fr lo 0 [(0, rv x0), (1, rv x1), (2, .int x2)] [] h Q := by
  unfold bX5_statementIn at hq
  refine x_aload_n 1 dX5_statementIn_0 rfl ?_
  obtain ⟨g1, hq⟩ := hq
  refine x_getN (v := .int (fI h x1 3840)) gfX5_264 dX5_statementIn_1 g1 rfl ?_
  refine x_bipush (v := 27) dX5_statementIn_4 (by decide) ?_
  refine x_icmp_eq (tgt := 15) dX5_statementIn_6 (by decide) (fun c2 => ?_) (fun c2 => ?_)
  · replace hq := hq.1 c2
    refine x_aload_n 1 dX5_statementIn_15 rfl ?_
    refine x_getN (v := rv (fR h x1 3841)) gfX5_202 dX5_statementIn_16 g1 rfl ?_
    obtain ⟨g3, hq⟩ := hq
    refine x_getN (v := .int (fI h (fR h x1 3841) 3587)) gfX5_219 dX5_statementIn_19 g3 rfl ?_
    refine x_sipush (v := 9999) dX5_statementIn_22 (by decide) ?_
    refine x_icmp_le (tgt := 32) dX5_statementIn_25 (by decide) (fun c4 => ?_) (fun c4 => ?_)
    · replace hq := hq.1 c4
      refine x_aload_n 0 dX5_statementIn_32 rfl ?_
      obtain ⟨g5, hq⟩ := hq
      refine x_get (v := rv (fR h x0 1294)) fdX5_296 dX5_statementIn_33 g5 rfl ?_
      refine x_aload_n 1 dX5_statementIn_36 rfl ?_
      refine x_getN (v := rv (fR h x1 3841)) gfX5_202 dX5_statementIn_37 g1 rfl ?_
      refine x_getN (v := .int (fI h (fR h x1 3841) 3587)) gfX5_219 dX5_statementIn_40 g3 rfl ?_
      obtain ⟨g6, hq⟩ := hq
      obtain ⟨g7, g8, hq⟩ := hq
      refine x_callV (Yc := YX17_label) (as := [.int (fI h (fR h x1 3841) 3587)]) (st := []) q2189 mvX17_label g6 rfl dX5_statementIn_43 (xle (xal1 (rv_cat _) (xal1 rfl xal0)) (by decide)) (xfr g7) (xlo xsw0 (by decide) g8) (xKr hq (fun x10 h9 hq e11 => ?_) (fun _ _ q _ => q))
      replace hq := hq e11
      exact uX5_statementIn_46 hq
    · replace hq := hq.2 c4
      refine x_null dX5_statementIn_28 ?_
      refine x_goto (tgt := 46) dX5_statementIn_29 (by decide) ?_
      exact uX5_statementIn_46 hq
  · replace hq := hq.2 c2
    refine x_aload_n 0 dX5_statementIn_9 rfl ?_
    refine x_aload_n 1 dX5_statementIn_10 rfl ?_
    obtain ⟨g12, hq⟩ := hq
    obtain ⟨g13, g14, hq⟩ := hq
    refine x_callV (Yc := YX5_plain) (as := [rv x1]) (st := []) q2506 mvX5_plain g12 rfl dX5_statementIn_11 (xle (xal1 (rv_cat _) (xal1 (rv_cat _) xal0)) (by decide)) (xfr g13) (xlo xsw0 (by decide) g14) (xKv hq (fun h15 hq e17 => ?_) (fun _ _ q _ => q))
    replace hq := hq e17
    exact x_vret rfl dX5_statementIn_14 hq
theorem rX5_statementIn {G : xG} {fr lo : Nat} {x0 : Nat} {x1 : Nat} {x2 : Int32} {h : xH} {Q : Outcome → xH → Prop} (hq : bX5_statementIn G fr lo x0 x1 x2 h Q) : xR G YX5_statementIn fr lo [rv x0, rv x1, .int x2] h Q := by
  show xP _ _ _ _ _ (lv_args 0 _) _ _ _
  rw [show lv_args 0 [rv x0, rv x1, .int x2] = [(0, rv x0), (1, rv x1), (2, .int x2)] from (xla1 (rv_cat _) (xla1 (rv_cat _) (xla1 rfl xla0)))]
  exact uX5_statementIn hq
set_option maxRecDepth 100000 in
theorem dX5_plain_0 : decode cX5_plain 0 = .ok (.aload_n 1, 1) := by decide +kernel
set_option maxRecDepth 100000 in
theorem dX5_plain_1 : decode cX5_plain 1 = .ok (.getfield 264, 3) := by decide +kernel
set_option maxRecDepth 100000 in
theorem dX5_plain_4 : decode cX5_plain 4 = .ok (.bipush 39, 2) := by decide +kernel
set_option maxRecDepth 100000 in
theorem dX5_plain_6 : decode cX5_plain 6 = .ok (.if_icmp .eq 21, 3) := by decide +kernel
set_option maxRecDepth 100000 in
theorem dX5_plain_9 : decode cX5_plain 9 = .ok (.aload_n 0, 1) := by decide +kernel
set_option maxRecDepth 100000 in
theorem dX5_plain_10 : decode cX5_plain 10 = .ok (.getfield 62, 3) := by decide +kernel
set_option maxRecDepth 100000 in
theorem dX5_plain_13 : decode cX5_plain 13 = .ok (.bipush 52, 2) := by decide +kernel
set_option maxRecDepth 100000 in
theorem dX5_plain_15 : decode cX5_plain 15 = .ok (.iconst 0, 1) := by decide +kernel
set_option maxRecDepth 100000 in
theorem dX5_plain_16 : decode cX5_plain 16 = .ok (.iconst 0, 1) := by decide +kernel
set_option maxRecDepth 100000 in
theorem dX5_plain_17 : decode cX5_plain 17 = .ok (.iconst 0, 1) := by decide +kernel
set_option maxRecDepth 100000 in
theorem dX5_plain_18 : decode cX5_plain 18 = .ok (.aload_n 0, 1) := by decide +kernel
set_option maxRecDepth 100000 in
theorem dX5_plain_19 : decode cX5_plain 19 = .ok (.aload_n 1, 1) := by decide +kernel
set_option maxRecDepth 100000 in
theorem dX5_plain_20 : decode cX5_plain 20 = .ok (.invokevirtual 624, 3) := by decide +kernel
set_option maxRecDepth 100000 in
theorem dX5_plain_23 : decode cX5_plain 23 = .ok (.invokevirtual 506, 3) := by decide +kernel
set_option maxRecDepth 100000 in
theorem dX5_plain_26 : decode cX5_plain 26 = .ok (.pop, 1) := by decide +kernel
set_option maxRecDepth 100000 in
theorem dX5_plain_27 : decode cX5_plain 27 = .ok (.aload_n 1, 1) := by decide +kernel
set_option maxRecDepth 100000 in
theorem dX5_plain_28 : decode cX5_plain 28 = .ok (.getfield 264, 3) := by decide +kernel
set_option maxRecDepth 100000 in
theorem dX5_plain_31 : decode cX5_plain 31 = .ok (.tableswitch 179 28 41 #[69, 72, 81, 89, 179, 97, 105, 179, 147, 147, 155, 155, 163, 171], 69) := by decide +kernel
set_option maxRecDepth 100000 in
theorem dX5_plain_100 : decode cX5_plain 100 = .ok (.goto 115, 3) := by decide +kernel
set_option maxRecDepth 100000 in
theorem dX5_plain_103 : decode cX5_plain 103 = .ok (.aload_n 0, 1) := by decide +kernel
set_option maxRecDepth 100000 in
theorem dX5_plain_104 : decode cX5_plain 104 = .ok (.aload_n 1, 1) := by decide +kernel
set_option maxRecDepth 100000 in
theorem dX5_plain_105 : decode cX5_plain 105 = .ok (.iconst 0, 1) := by decide +kernel
set_option maxRecDepth 100000 in
theorem dX5_plain_106 : decode cX5_plain 106 = .ok (.invokevirtual 611, 3) := by decide +kernel
set_option maxRecDepth 100000 in
theorem dX5_plain_109 : decode cX5_plain 109 = .ok (.goto 106, 3) := by decide +kernel
set_option maxRecDepth 100000 in
theorem dX5_plain_112 : decode cX5_plain 112 = .ok (.aload_n 0, 1) := by decide +kernel
set_option maxRecDepth 100000 in
theorem dX5_plain_113 : decode cX5_plain 113 = .ok (.aload_n 1, 1) := by decide +kernel
set_option maxRecDepth 100000 in
theorem dX5_plain_114 : decode cX5_plain 114 = .ok (.invokevirtual 627, 3) := by decide +kernel
set_option maxRecDepth 100000 in
theorem dX5_plain_117 : decode cX5_plain 117 = .ok (.goto 98, 3) := by decide +kernel
set_option maxRecDepth 100000 in
theorem dX5_plain_120 : decode cX5_plain 120 = .ok (.aload_n 0, 1) := by decide +kernel
set_option maxRecDepth 100000 in
theorem dX5_plain_121 : decode cX5_plain 121 = .ok (.aload_n 1, 1) := by decide +kernel
set_option maxRecDepth 100000 in
theorem dX5_plain_122 : decode cX5_plain 122 = .ok (.invokevirtual 630, 3) := by decide +kernel
set_option maxRecDepth 100000 in
theorem dX5_plain_125 : decode cX5_plain 125 = .ok (.goto 90, 3) := by decide +kernel
set_option maxRecDepth 100000 in
theorem dX5_plain_128 : decode cX5_plain 128 = .ok (.aload_n 0, 1) := by decide +kernel
set_option maxRecDepth 100000 in
theorem dX5_plain_129 : decode cX5_plain 129 = .ok (.aload_n 1, 1) := by decide +kernel
set_option maxRecDepth 100000 in
theorem dX5_plain_130 : decode cX5_plain 130 = .ok (.invokevirtual 633, 3) := by decide +kernel
set_option maxRecDepth 100000 in
theorem dX5_plain_133 : decode cX5_plain 133 = .ok (.goto 82, 3) := by decide +kernel
set_option maxRecDepth 100000 in
theorem dX5_plain_136 : decode cX5_plain 136 = .ok (.aload_n 0, 1) := by decide +kernel
set_option maxRecDepth 100000 in
theorem dX5_plain_137 : decode cX5_plain 137 = .ok (.getfield 62, 3) := by decide +kernel
set_option maxRecDepth 100000 in
theorem dX5_plain_140 : decode cX5_plain 140 = .ok (.getfield 501, 3) := by decide +kernel
set_option maxRecDepth 100000 in
theorem dX5_plain_143 : decode cX5_plain 143 = .ok (.istore_n 2, 1) := by decide +kernel
set_option maxRecDepth 100000 in
theorem dX5_plain_144 : decode cX5_plain 144 = .ok (.aload_n 0, 1) := by decide +kernel
set_option maxRecDepth 100000 in
theorem dX5_plain_145 : decode cX5_plain 145 = .ok (.aload_n 1, 1) := by decide +kernel
set_option maxRecDepth 100000 in
theorem dX5_plain_146 : decode cX5_plain 146 = .ok (.getfield 251, 3) := by decide +kernel
set_option maxRecDepth 100000 in
theorem dX5_plain_149 : decode cX5_plain 149 = .ok (.iconst 0, 1) := by decide +kernel
set_option maxRecDepth 100000 in
theorem dX5_plain_150 : decode cX5_plain 150 = .ok (.invokevirtual 611, 3) := by decide +kernel
set_option maxRecDepth 100000 in
theorem dX5_plain_153 : decode cX5_plain 153 = .ok (.aload_n 0, 1) := by decide +kernel
set_option maxRecDepth 100000 in
theorem dX5_plain_154 : decode cX5_plain 154 = .ok (.aload_n 1, 1) := by decide +kernel
set_option maxRecDepth 100000 in
theorem dX5_plain_155 : decode cX5_plain 155 = .ok (.getfield 519, 3) := by decide +kernel
set_option maxRecDepth 100000 in
theorem dX5_plain_158 : decode cX5_plain 158 = .ok (.invokevirtual 636, 3) := by decide +kernel
set_option maxRecDepth 100000 in
theorem dX5_plain_161 : decode cX5_plain 161 = .ok (.aload_n 0, 1) := by decide +kernel
set_option maxRecDepth 100000 in
theorem dX5_plain_162 : decode cX5_plain 162 = .ok (.getfield 62, 3) := by decide +kernel
set_option maxRecDepth 100000 in
theorem dX5_plain_165 : decode cX5_plain 165 = .ok (.bipush 51, 2) := by decide +kernel
set_option maxRecDepth 100000 in
theorem dX5_plain_167 : decode cX5_plain 167 = .ok (.iload_n 2, 1) := by decide +kernel
set_option maxRecDepth 100000 in
theorem dX5_plain_168 : decode cX5_plain 168 = .ok (.iconst 0, 1) := by decide +kernel
set_option maxRecDepth 100000 in
theorem dX5_plain_169 : decode cX5_plain 169 = .ok (.iconst 0, 1) := by decide +kernel
set_option maxRecDepth 100000 in
theorem dX5_plain_170 : decode cX5_plain 170 = .ok (.iconst 0, 1) := by decide +kernel
set_option maxRecDepth 100000 in
theorem dX5_plain_171 : decode cX5_plain 171 = .ok (.invokevirtual 506, 3) := by decide +kernel
set_option maxRecDepth 100000 in
theorem dX5_plain_174 : decode cX5_plain 174 = .ok (.pop, 1) := by decide +kernel
set_option maxRecDepth 100000 in
theorem dX5_plain_175 : decode cX5_plain 175 = .ok (.goto 40, 3) := by decide +kernel
set_option maxRecDepth 100000 in
theorem dX5_plain_178 : decode cX5_plain 178 = .ok (.aload_n 0, 1) := by decide +kernel
set_option maxRecDepth 100000 in
theorem dX5_plain_179 : decode cX5_plain 179 = .ok (.aload_n 1, 1) := by decide +kernel
set_option maxRecDepth 100000 in
theorem dX5_plain_180 : decode cX5_plain 180 = .ok (.invokevirtual 639, 3) := by decide +kernel
set_option maxRecDepth 100000 in
theorem dX5_plain_183 : decode cX5_plain 183 = .ok (.goto 32, 3) := by decide +kernel
set_option maxRecDepth 100000 in
theorem dX5_plain_186 : decode cX5_plain 186 = .ok (.aload_n 0, 1) := by decide +kernel
set_option maxRecDepth 100000 in
theorem dX5_plain_187 : decode cX5_plain 187 = .ok (.aload_n 1, 1) := by decide +kernel
set_option maxRecDepth 100000 in
theorem dX5_plain_188 : decode cX5_plain 188 = .ok (.invokevirtual 642, 3) := by decide +kernel
set_option maxRecDepth 100000 in
theorem dX5_plain_191 : decode cX5_plain 191 = .ok (.goto 24, 3) := by decide +kernel
set_option maxRecDepth 100000 in
theorem dX5_plain_194 : decode cX5_plain 194 = .ok (.aload_n 0, 1) := by decide +kernel
set_option maxRecDepth 100000 in
theorem dX5_plain_195 : decode cX5_plain 195 = .ok (.aload_n 1, 1) := by decide +kernel
set_option maxRecDepth 100000 in
theorem dX5_plain_196 : decode cX5_plain 196 = .ok (.invokevirtual 645, 3) := by decide +kernel
set_option maxRecDepth 100000 in
theorem dX5_plain_199 : decode cX5_plain 199 = .ok (.goto 16, 3) := by decide +kernel
set_option maxRecDepth 100000 in
theorem dX5_plain_202 : decode cX5_plain 202 = .ok (.aload_n 0, 1) := by decide +kernel
set_option maxRecDepth 100000 in
theorem dX5_plain_203 : decode cX5_plain 203 = .ok (.aload_n 1, 1) := by decide +kernel
set_option maxRecDepth 100000 in
theorem dX5_plain_204 : decode cX5_plain 204 = .ok (.invokevirtual 648, 3) := by decide +kernel
set_option maxRecDepth 100000 in
theorem dX5_plain_207 : decode cX5_plain 207 = .ok (.goto 8, 3) := by decide +kernel
set_option maxRecDepth 100000 in
theorem dX5_plain_210 : decode cX5_plain 210 = .ok (.aload_n 0, 1) := by decide +kernel
set_option maxRecDepth 100000 in
theorem dX5_plain_211 : decode cX5_plain 211 = .ok (.aload_n 1, 1) := by decide +kernel
set_option maxRecDepth 100000 in
theorem dX5_plain_212 : decode cX5_plain 212 = .ok (.invokevirtual 651, 3) := by decide +kernel
set_option maxRecDepth 100000 in
theorem dX5_plain_215 : decode cX5_plain 215 = .ok (.return_, 1) := by decide +kernel
set_option maxRecDepth 100000 in
def bX5_plain_215 (G : xG) (fr lo : Nat) (h : xH) (Q : Outcome → xH → Prop) : Prop := Q (.returned none) h
set_option maxRecDepth 100000 in
theorem uX5_plain_215 {G : xG} {fr lo : Nat} {h : xH} {Q : Outcome → xH → Prop} (hq : bX5_plain_215 G fr lo h Q) : xP G YX5_plain fr lo 215 [] [] h Q := by
  unfold bX5_plain_215 at hq
  exact x_vret rfl dX5_plain_215 hq
set_option maxRecDepth 100000 in
def bX5_plain_27 (G : xG) (fr lo : Nat) (x0 : Nat) (x1 : Nat) (h : xH) (Q : Outcome → xH → Prop) : Prop := tg h x1 = 16 ∧ (((fI h x1 3840) = 28 → bX5_plain_215 G fr lo h Q) ∧ ((fI h x1 3840) = 29 → tg h x0 = 6 ∧ 1 ≤ fr ∧ 16 ≤ lo ∧ xRv G YX5_row (fr - 1) (lo - 16) [rv x0, rv x1, .int 0] h (fun h7 => xext h h7 → bX5_plain_215 G fr lo h7 Q) (fun r h2 => Q (.threw r) h2)) ∧ ((fI h x1 3840) = 30 → tg h x0 = 6 ∧ 1 ≤ fr ∧ 15 ≤ lo ∧ xRv G YX5_branch (fr - 1) (lo - 15) [rv x0, rv x1] h (fun h14 => xext h h14 → bX5_plain_215 G fr lo h14 Q) (fun r h2 => Q (.threw r) h2)) ∧ ((fI h x1 3840) = 31 → tg h x0 = 6 ∧ 1 ≤ fr ∧ 24 ≤ lo ∧ xRv G YX5_cases (fr - 1) (lo - 24) [rv x0, rv x1] h (fun h21 => xext h h21 → bX5_plain_215 G fr lo h21 Q) (fun r h2 => Q (.threw r) h2)) ∧ ((fI h x1 3840) = 32 → tg h x0 = 6 ∧ 1 ≤ fr ∧ 14 ≤ lo ∧ xRv G YX5_calls (fr - 1) (lo - 14) [rv x0, rv x1] h (fun h28 => xext h h28 → bX5_plain_215 G fr lo h28 Q) (fun r h2 => Q (.threw r) h2)) ∧ ((fI h x1 3840) = 33 → tg h x0 = 6 ∧ 1 ≤ fr ∧ 15 ≤ lo ∧ xRv G YX5_loop (fr - 1) (lo - 15) [rv x0, rv x1] h (fun h35 => xext h h35 → bX5_plain_215 G fr lo h35 Q) (fun r h2 => Q (.threw r) h2)) ∧ ((fI h x1 3840) = 34 → tg h x0 = 6 ∧ tg h (fR h x0 1281) = 3 ∧ 1 ≤ fr ∧ 16 ≤ lo ∧ xRv G YX5_row (fr - 1) (lo - 16) [rv x0, rv (fR h x1 3842), .int 0] h (fun h43 => xext h h43 → 1 ≤ fr ∧ 13 ≤ lo ∧ xRv G YX5_truth (fr - 1) (lo - 13) [rv x0, rv (fR h43 x1 3843)] h43 (fun h50 => xext h43 h50 → tg h50 (fR h50 x0 1281) = 3 ∧ 1 ≤ fr ∧ 17 ≤ lo ∧ xRi G YX2_put (fr - 1) (lo - 17) [rv (fR h50 x0 1281), .int 51, .int (fI h (fR h x0 1281) 517), .int 0, .int 0, .int 0] h50 (fun x58 h57 => xext h50 h57 → bX5_plain_215 G fr lo h57 Q) (fun r h2 => Q (.threw r) h2)) (fun r h2 => Q (.threw r) h2)) (fun r h2 => Q (.threw r) h2)) ∧ ((fI h x1 3840) = 35 → tg h x0 = 6 ∧ 1 ≤ fr ∧ 14 ≤ lo ∧ xRv G YX5_calls (fr - 1) (lo - 14) [rv x0, rv x1] h (fun h64 => xext h h64 → bX5_plain_215 G fr lo h64 Q) (fun r h2 => Q (.threw r) h2)) ∧ ((fI h x1 3840) = 36 → tg h x0 = 6 ∧ 1 ≤ fr ∧ 20 ≤ lo ∧ xRv G YX5_counts (fr - 1) (lo - 20) [rv x0, rv x1] h (fun h71 => xext h h71 → bX5_plain_215 G fr lo h71 Q) (fun r h2 => Q (.threw r) h2)) ∧ ((fI h x1 3840) = 37 → tg h x0 = 6 ∧ 1 ≤ fr ∧ 20 ≤ lo ∧ xRv G YX5_counts (fr - 1) (lo - 20) [rv x0, rv x1] h (fun h78 => xext h h78 → bX5_plain_215 G fr lo h78 Q) (fun r h2 => Q (.threw r) h2)) ∧ ((fI h x1 3840) = 38 → tg h x0 = 6 ∧ 1 ≤ fr ∧ 16 ≤ lo ∧ xRv G YX5_lays (fr - 1) (lo - 16) [rv x0, rv x1] h (fun h85 => xext h h85 → bX5_plain_215 G fr lo h85 Q) (fun r h2 => Q (.threw r) h2)) ∧ ((fI h x1 3840) = 39 → tg h x0 = 6 ∧ 1 ≤ fr ∧ 16 ≤ lo ∧ xRv G YX5_lays (fr - 1) (lo - 16) [rv x0, rv x1] h (fun h92 => xext h h92 → bX5_plain_215 G fr lo h92 Q) (fun r h2 => Q (.threw r) h2)) ∧ ((fI h x1 3840) = 40 → tg h x0 = 6 ∧ 1 ≤ fr ∧ 16 ≤ lo ∧ xRv G YX5_leaves (fr - 1) (lo - 16) [rv x0, rv x1] h (fun h99 => xext h h99 → bX5_plain_215 G fr lo h99 Q) (fun r h2 => Q (.threw r) h2)) ∧ ((fI h x1 3840) = 41 → tg h x0 = 6 ∧ 1 ≤ fr ∧ 18 ≤ lo ∧ xRv G YX5_assigns (fr - 1) (lo - 18) [rv x0, rv x1] h (fun h106 => xext h h106 → bX5_plain_215 G fr lo h106 Q) (fun r h2 => Q (.threw r) h2)) ∧ (¬ (fI h x1 3840) = 28 → ¬ (fI h x1 3840) = 29 → ¬ (fI h x1 3840) = 30 → ¬ (fI h x1 3840) = 31 → ¬ (fI h x1 3840) = 32 → ¬ (fI h x1 3840) = 33 → ¬ (fI h x1 3840) = 34 → ¬ (fI h x1 3840) = 35 → ¬ (fI h x1 3840) = 36 → ¬ (fI h x1 3840) = 37 → ¬ (fI h x1 3840) = 38 → ¬ (fI h x1 3840) = 39 → ¬ (fI h x1 3840) = 40 → ¬ (fI h x1 3840) = 41 → tg h x0 = 6 ∧ 1 ≤ fr ∧ 14 ≤ lo ∧ xRv G YX5_calls (fr - 1) (lo - 14) [rv x0, rv x1] h (fun h112 => xext h h112 → bX5_plain_215 G fr lo h112 Q) (fun r h2 => Q (.threw r) h2)))
set_option maxRecDepth 100000 in
theorem uX5_plain_27 {G : xG} {fr lo : Nat} {x0 : Nat} {x1 : Nat} {h : xH} {Q : Outcome → xH → Prop} (hq : bX5_plain_27 G fr lo x0 x1 h Q) : xP G YX5_plain fr lo 27 [(0, rv x0), (1, rv x1)] [] h Q := by
  unfold bX5_plain_27 at hq
  refine x_aload_n 1 dX5_plain_27 rfl ?_
  obtain ⟨g1, hq⟩ := hq
  refine x_getN (v := .int (fI h x1 3840)) gfX5_264 dX5_plain_28 g1 rfl ?_
  by_cases c2 : (fI h x1 3840) = 28
  · replace hq := hq.1 c2
    refine x_tin (tgt := 100) (off := 69) 28 c2 dX5_plain_31 (by decide) (by decide) (by decide) (by decide) ?_
    refine x_goto (tgt := 215) dX5_plain_100 (by decide) ?_
    refine xP.pick (lv' := []) [] rfl ?_
    exact uX5_plain_215 hq
  replace hq := hq.2
  by_cases c3 : (fI h x1 3840) = 29
  · replace hq := hq.1 c3
    refine x_tin (tgt := 103) (off := 72) 29 c3 dX5_plain_31 (by decide) (by decide) (by decide) (by decide) ?_
    refine x_aload_n 0 dX5_plain_103 rfl ?_
    refine x_aload_n 1 dX5_plain_104 rfl ?_
    refine x_iconst (v := 0) dX5_plain_105 (by decide) ?_
    obtain ⟨g4, hq⟩ := hq
    obtain ⟨g5, g6, hq⟩ := hq
    refine x_callV (Yc := YX5_row) (as := [rv x1, .int 0]) (st := []) q2498 mvX5_row g4 rfl dX5_plain_106 (xle (xal1 (rv_cat _) (xal1 (rv_cat _) (xal1 rfl xal0))) (by decide)) (xfr g5) (xlo xsw0 (by decide) g6) (xKv hq (fun h7 hq e9 => ?_) (fun _ _ q _ => q))
    replace hq := hq e9
    refine x_goto (tgt := 215) dX5_plain_109 (by decide) ?_
    refine xP.pick (lv' := []) [] rfl ?_
    exact uX5_plain_215 hq
  replace hq := hq.2
  by_cases c10 : (fI h x1 3840) = 30
  · replace hq := hq.1 c10
    refine x_tin (tgt := 112) (off := 81) 30 c10 dX5_plain_31 (by decide) (by decide) (by decide) (by decide) ?_
    refine x_aload_n 0 dX5_plain_112 rfl ?_
    refine x_aload_n 1 dX5_plain_113 rfl ?_
    obtain ⟨g11, hq⟩ := hq
    obtain ⟨g12, g13, hq⟩ := hq
    refine x_callV (Yc := YX5_branch) (as := [rv x1]) (st := []) q2514 mvX5_branch g11 rfl dX5_plain_114 (xle (xal1 (rv_cat _) (xal1 (rv_cat _) xal0)) (by decide)) (xfr g12) (xlo xsw0 (by decide) g13) (xKv hq (fun h14 hq e16 => ?_) (fun _ _ q _ => q))
    replace hq := hq e16
    refine x_goto (tgt := 215) dX5_plain_117 (by decide) ?_
    refine xP.pick (lv' := []) [] rfl ?_
    exact uX5_plain_215 hq
  replace hq := hq.2
  by_cases c17 : (fI h x1 3840) = 31
  · replace hq := hq.1 c17
    refine x_tin (tgt := 120) (off := 89) 31 c17 dX5_plain_31 (by decide) (by decide) (by decide) (by decide) ?_
    refine x_aload_n 0 dX5_plain_120 rfl ?_
    refine x_aload_n 1 dX5_plain_121 rfl ?_
    obtain ⟨g18, hq⟩ := hq
    obtain ⟨g19, g20, hq⟩ := hq
    refine x_callV (Yc := YX5_cases) (as := [rv x1]) (st := []) q2704 mvX5_cases g18 rfl dX5_plain_122 (xle (xal1 (rv_cat _) (xal1 (rv_cat _) xal0)) (by decide)) (xfr g19) (xlo xsw0 (by decide) g20) (xKv hq (fun h21 hq e23 => ?_) (fun _ _ q _ => q))
    replace hq := hq e23
    refine x_goto (tgt := 215) dX5_plain_125 (by decide) ?_
    refine xP.pick (lv' := []) [] rfl ?_
    exact uX5_plain_215 hq
  replace hq := hq.2
  by_cases c24 : (fI h x1 3840) = 32
  · replace hq := hq.1 c24
    refine x_tin (tgt := 210) (off := 179) 32 c24 dX5_plain_31 (by decide) (by decide) (by decide) (by decide) ?_
    refine x_aload_n 0 dX5_plain_210 rfl ?_
    refine x_aload_n 1 dX5_plain_211 rfl ?_
    obtain ⟨g25, hq⟩ := hq
    obtain ⟨g26, g27, hq⟩ := hq
    refine x_callV (Yc := YX5_calls) (as := [rv x1]) (st := []) q2774 mvX5_calls g25 rfl dX5_plain_212 (xle (xal1 (rv_cat _) (xal1 (rv_cat _) xal0)) (by decide)) (xfr g26) (xlo xsw0 (by decide) g27) (xKv hq (fun h28 hq e30 => ?_) (fun _ _ q _ => q))
    replace hq := hq e30
    refine xP.pick (lv' := []) [] rfl ?_
    exact uX5_plain_215 hq
  replace hq := hq.2
  by_cases c31 : (fI h x1 3840) = 33
  · replace hq := hq.1 c31
    refine x_tin (tgt := 128) (off := 97) 33 c31 dX5_plain_31 (by decide) (by decide) (by decide) (by decide) ?_
    refine x_aload_n 0 dX5_plain_128 rfl ?_
    refine x_aload_n 1 dX5_plain_129 rfl ?_
    obtain ⟨g32, hq⟩ := hq
    obtain ⟨g33, g34, hq⟩ := hq
    refine x_callV (Yc := YX5_loop) (as := [rv x1]) (st := []) q2712 mvX5_loop g32 rfl dX5_plain_130 (xle (xal1 (rv_cat _) (xal1 (rv_cat _) xal0)) (by decide)) (xfr g33) (xlo xsw0 (by decide) g34) (xKv hq (fun h35 hq e37 => ?_) (fun _ _ q _ => q))
    replace hq := hq e37
    refine x_goto (tgt := 215) dX5_plain_133 (by decide) ?_
    refine xP.pick (lv' := []) [] rfl ?_
    exact uX5_plain_215 hq
  replace hq := hq.2
  by_cases c38 : (fI h x1 3840) = 34
  · replace hq := hq.1 c38
    refine x_tin (tgt := 136) (off := 105) 34 c38 dX5_plain_31 (by decide) (by decide) (by decide) (by decide) ?_
    refine x_aload_n 0 dX5_plain_136 rfl ?_
    obtain ⟨g39, hq⟩ := hq
    refine x_get (v := rv (fR h x0 1281)) fdX5_62 dX5_plain_137 g39 rfl ?_
    obtain ⟨g40, hq⟩ := hq
    refine x_getN (v := .int (fI h (fR h x0 1281) 517)) gfX5_501 dX5_plain_140 g40 rfl ?_
    refine x_istore_n (lv' := [(2, .int (fI h (fR h x0 1281) 517)), (0, rv x0), (1, rv x1)]) dX5_plain_143 (by decide) (by first | rfl | (simp [rv_cat, Value.category]; done) | (simp [rv_cat, Value.category]; decide)) ?_
    refine x_aload_n 1 dX5_plain_144 rfl ?_
    refine x_aload_n 2 dX5_plain_145 rfl ?_
    refine x_getN (v := rv (fR h x1 3842)) gfX5_251 dX5_plain_146 g1 rfl ?_
    refine x_iconst (v := 0) dX5_plain_149 (by decide) ?_
    obtain ⟨g41, g42, hq⟩ := hq
    refine x_callV (Yc := YX5_row) (as := [rv (fR h x1 3842), .int 0]) (st := []) q2498 mvX5_row g39 rfl dX5_plain_150 (xle (xal1 (rv_cat _) (xal1 (rv_cat _) (xal1 rfl xal0))) (by decide)) (xfr g41) (xlo xsw0 (by decide) g42) (xKv hq (fun h43 hq e45 => ?_) (fun _ _ q _ => q))
    replace hq := hq e45
    refine x_aload_n 1 dX5_plain_153 rfl ?_
    refine x_aload_n 2 dX5_plain_154 rfl ?_
    have t46 : tg h43 x1 = 16 := e45.tg g1 (by decide)
    refine x_getN (v := rv (fR h43 x1 3843)) gfX5_519 dX5_plain_155 t46 rfl ?_
    have t47 : tg h43 x0 = 6 := e45.tg g39 (by decide)
    obtain ⟨g48, g49, hq⟩ := hq
    refine x_callV (Yc := YX5_truth) (as := [rv (fR h43 x1 3843)]) (st := []) q2518 mvX5_truth t47 rfl dX5_plain_158 (xle (xal1 (rv_cat _) (xal1 (rv_cat _) xal0)) (by decide)) (xfr g48) (xlo xsw0 (by decide) g49) (xKv hq (fun h50 hq e52 => ?_) (fun _ _ q _ => q))
    replace hq := hq e52
    refine x_aload_n 1 dX5_plain_161 rfl ?_
    have t53 : tg h50 x0 = 6 := e52.tg t47 (by decide)
    refine x_get (v := rv (fR h50 x0 1281)) fdX5_62 dX5_plain_162 t53 rfl ?_
    refine x_bipush (v := 51) dX5_plain_165 (by decide) ?_
    refine x_iload_n 0 dX5_plain_167 rfl ?_
    refine x_iconst (v := 0) dX5_plain_168 (by decide) ?_
    refine x_iconst (v := 0) dX5_plain_169 (by decide) ?_
    refine x_iconst (v := 0) dX5_plain_170 (by decide) ?_
    obtain ⟨g54, hq⟩ := hq
    obtain ⟨g55, g56, hq⟩ := hq
    refine x_callV (Yc := YX2_put) (as := [.int 51, .int (fI h (fR h x0 1281) 517), .int 0, .int 0, .int 0]) (st := []) q2494 mvX2_put g54 rfl dX5_plain_171 (xle (xal1 (rv_cat _) (xal1 rfl (xal1 rfl (xal1 rfl (xal1 rfl (xal1 rfl xal0)))))) (by decide)) (xfr g55) (xlo xsw0 (by decide) g56) (xKi hq (fun x58 h57 hq e59 => ?_) (fun _ _ q _ => q))
    replace hq := hq e59
    refine x_pop dX5_plain_174 rfl ?_
    refine x_goto (tgt := 215) dX5_plain_175 (by decide) ?_
    refine xP.pick (lv' := []) [] rfl ?_
    exact uX5_plain_215 hq
  replace hq := hq.2
  by_cases c60 : (fI h x1 3840) = 35
  · replace hq := hq.1 c60
    refine x_tin (tgt := 210) (off := 179) 35 c60 dX5_plain_31 (by decide) (by decide) (by decide) (by decide) ?_
    refine x_aload_n 0 dX5_plain_210 rfl ?_
    refine x_aload_n 1 dX5_plain_211 rfl ?_
    obtain ⟨g61, hq⟩ := hq
    obtain ⟨g62, g63, hq⟩ := hq
    refine x_callV (Yc := YX5_calls) (as := [rv x1]) (st := []) q2774 mvX5_calls g61 rfl dX5_plain_212 (xle (xal1 (rv_cat _) (xal1 (rv_cat _) xal0)) (by decide)) (xfr g62) (xlo xsw0 (by decide) g63) (xKv hq (fun h64 hq e66 => ?_) (fun _ _ q _ => q))
    replace hq := hq e66
    refine xP.pick (lv' := []) [] rfl ?_
    exact uX5_plain_215 hq
  replace hq := hq.2
  by_cases c67 : (fI h x1 3840) = 36
  · replace hq := hq.1 c67
    refine x_tin (tgt := 178) (off := 147) 36 c67 dX5_plain_31 (by decide) (by decide) (by decide) (by decide) ?_
    refine x_aload_n 0 dX5_plain_178 rfl ?_
    refine x_aload_n 1 dX5_plain_179 rfl ?_
    obtain ⟨g68, hq⟩ := hq
    obtain ⟨g69, g70, hq⟩ := hq
    refine x_callV (Yc := YX5_counts) (as := [rv x1]) (st := []) q2716 mvX5_counts g68 rfl dX5_plain_180 (xle (xal1 (rv_cat _) (xal1 (rv_cat _) xal0)) (by decide)) (xfr g69) (xlo xsw0 (by decide) g70) (xKv hq (fun h71 hq e73 => ?_) (fun _ _ q _ => q))
    replace hq := hq e73
    refine x_goto (tgt := 215) dX5_plain_183 (by decide) ?_
    refine xP.pick (lv' := []) [] rfl ?_
    exact uX5_plain_215 hq
  replace hq := hq.2
  by_cases c74 : (fI h x1 3840) = 37
  · replace hq := hq.1 c74
    refine x_tin (tgt := 178) (off := 147) 37 c74 dX5_plain_31 (by decide) (by decide) (by decide) (by decide) ?_
    refine x_aload_n 0 dX5_plain_178 rfl ?_
    refine x_aload_n 1 dX5_plain_179 rfl ?_
    obtain ⟨g75, hq⟩ := hq
    obtain ⟨g76, g77, hq⟩ := hq
    refine x_callV (Yc := YX5_counts) (as := [rv x1]) (st := []) q2716 mvX5_counts g75 rfl dX5_plain_180 (xle (xal1 (rv_cat _) (xal1 (rv_cat _) xal0)) (by decide)) (xfr g76) (xlo xsw0 (by decide) g77) (xKv hq (fun h78 hq e80 => ?_) (fun _ _ q _ => q))
    replace hq := hq e80
    refine x_goto (tgt := 215) dX5_plain_183 (by decide) ?_
    refine xP.pick (lv' := []) [] rfl ?_
    exact uX5_plain_215 hq
  replace hq := hq.2
  by_cases c81 : (fI h x1 3840) = 38
  · replace hq := hq.1 c81
    refine x_tin (tgt := 186) (off := 155) 38 c81 dX5_plain_31 (by decide) (by decide) (by decide) (by decide) ?_
    refine x_aload_n 0 dX5_plain_186 rfl ?_
    refine x_aload_n 1 dX5_plain_187 rfl ?_
    obtain ⟨g82, hq⟩ := hq
    obtain ⟨g83, g84, hq⟩ := hq
    refine x_callV (Yc := YX5_lays) (as := [rv x1]) (st := []) q2720 mvX5_lays g82 rfl dX5_plain_188 (xle (xal1 (rv_cat _) (xal1 (rv_cat _) xal0)) (by decide)) (xfr g83) (xlo xsw0 (by decide) g84) (xKv hq (fun h85 hq e87 => ?_) (fun _ _ q _ => q))
    replace hq := hq e87
    refine x_goto (tgt := 215) dX5_plain_191 (by decide) ?_
    refine xP.pick (lv' := []) [] rfl ?_
    exact uX5_plain_215 hq
  replace hq := hq.2
  by_cases c88 : (fI h x1 3840) = 39
  · replace hq := hq.1 c88
    refine x_tin (tgt := 186) (off := 155) 39 c88 dX5_plain_31 (by decide) (by decide) (by decide) (by decide) ?_
    refine x_aload_n 0 dX5_plain_186 rfl ?_
    refine x_aload_n 1 dX5_plain_187 rfl ?_
    obtain ⟨g89, hq⟩ := hq
    obtain ⟨g90, g91, hq⟩ := hq
    refine x_callV (Yc := YX5_lays) (as := [rv x1]) (st := []) q2720 mvX5_lays g89 rfl dX5_plain_188 (xle (xal1 (rv_cat _) (xal1 (rv_cat _) xal0)) (by decide)) (xfr g90) (xlo xsw0 (by decide) g91) (xKv hq (fun h92 hq e94 => ?_) (fun _ _ q _ => q))
    replace hq := hq e94
    refine x_goto (tgt := 215) dX5_plain_191 (by decide) ?_
    refine xP.pick (lv' := []) [] rfl ?_
    exact uX5_plain_215 hq
  replace hq := hq.2
  by_cases c95 : (fI h x1 3840) = 40
  · replace hq := hq.1 c95
    refine x_tin (tgt := 194) (off := 163) 40 c95 dX5_plain_31 (by decide) (by decide) (by decide) (by decide) ?_
    refine x_aload_n 0 dX5_plain_194 rfl ?_
    refine x_aload_n 1 dX5_plain_195 rfl ?_
    obtain ⟨g96, hq⟩ := hq
    obtain ⟨g97, g98, hq⟩ := hq
    refine x_callV (Yc := YX5_leaves) (as := [rv x1]) (st := []) q2724 mvX5_leaves g96 rfl dX5_plain_196 (xle (xal1 (rv_cat _) (xal1 (rv_cat _) xal0)) (by decide)) (xfr g97) (xlo xsw0 (by decide) g98) (xKv hq (fun h99 hq e101 => ?_) (fun _ _ q _ => q))
    replace hq := hq e101
    refine x_goto (tgt := 215) dX5_plain_199 (by decide) ?_
    refine xP.pick (lv' := []) [] rfl ?_
    exact uX5_plain_215 hq
  replace hq := hq.2
  by_cases c102 : (fI h x1 3840) = 41
  · replace hq := hq.1 c102
    refine x_tin (tgt := 202) (off := 171) 41 c102 dX5_plain_31 (by decide) (by decide) (by decide) (by decide) ?_
    refine x_aload_n 0 dX5_plain_202 rfl ?_
    refine x_aload_n 1 dX5_plain_203 rfl ?_
    obtain ⟨g103, hq⟩ := hq
    obtain ⟨g104, g105, hq⟩ := hq
    refine x_callV (Yc := YX5_assigns) (as := [rv x1]) (st := []) q2762 mvX5_assigns g103 rfl dX5_plain_204 (xle (xal1 (rv_cat _) (xal1 (rv_cat _) xal0)) (by decide)) (xfr g104) (xlo xsw0 (by decide) g105) (xKv hq (fun h106 hq e108 => ?_) (fun _ _ q _ => q))
    replace hq := hq e108
    refine x_goto (tgt := 215) dX5_plain_207 (by decide) ?_
    refine xP.pick (lv' := []) [] rfl ?_
    exact uX5_plain_215 hq
  replace hq := hq.2
  replace hq := hq c2 c3 c10 c17 c24 c31 c38 c60 c67 c74 c81 c88 c95 c102
  have nc2 := lv_neT c2 (show (28 : Int32).toInt = 28 from by decide)
  have nc3 := lv_neT c3 (show (29 : Int32).toInt = 29 from by decide)
  have nc10 := lv_neT c10 (show (30 : Int32).toInt = 30 from by decide)
  have nc17 := lv_neT c17 (show (31 : Int32).toInt = 31 from by decide)
  have nc24 := lv_neT c24 (show (32 : Int32).toInt = 32 from by decide)
  have nc31 := lv_neT c31 (show (33 : Int32).toInt = 33 from by decide)
  have nc38 := lv_neT c38 (show (34 : Int32).toInt = 34 from by decide)
  have nc60 := lv_neT c60 (show (35 : Int32).toInt = 35 from by decide)
  have nc67 := lv_neT c67 (show (36 : Int32).toInt = 36 from by decide)
  have nc74 := lv_neT c74 (show (37 : Int32).toInt = 37 from by decide)
  have nc81 := lv_neT c81 (show (38 : Int32).toInt = 38 from by decide)
  have nc88 := lv_neT c88 (show (39 : Int32).toInt = 39 from by decide)
  have nc95 := lv_neT c95 (show (40 : Int32).toInt = 40 from by decide)
  have nc102 := lv_neT c102 (show (41 : Int32).toInt = 41 from by decide)
  refine x_tout (tgt := 210) dX5_plain_31 (by omega) (by decide) ?_
  refine x_aload_n 0 dX5_plain_210 rfl ?_
  refine x_aload_n 1 dX5_plain_211 rfl ?_
  obtain ⟨g109, hq⟩ := hq
  obtain ⟨g110, g111, hq⟩ := hq
  refine x_callV (Yc := YX5_calls) (as := [rv x1]) (st := []) q2774 mvX5_calls g109 rfl dX5_plain_212 (xle (xal1 (rv_cat _) (xal1 (rv_cat _) xal0)) (by decide)) (xfr g110) (xlo xsw0 (by decide) g111) (xKv hq (fun h112 hq e114 => ?_) (fun _ _ q _ => q))
  replace hq := hq e114
  refine xP.pick (lv' := []) [] rfl ?_
  exact uX5_plain_215 hq
set_option maxRecDepth 100000 in
def bX5_plain (G : xG) (fr lo : Nat) (x0 : Nat) (x1 : Nat) (h : xH) (Q : Outcome → xH → Prop) : Prop := tg h x1 = 16 ∧ (((fI h x1 3840) = 39 → bX5_plain_27 G fr lo x0 x1 h Q) ∧ (¬ (fI h x1 3840) = 39 → tg h x0 = 6 ∧ 1 ≤ fr ∧ 19 ≤ lo ∧ xRi G YX5_firstOf (fr - 1) (lo - 19) [rv x0, rv x1] h (fun x7 h6 => xext h h6 → tg h6 (fR h x0 1281) = 3 ∧ 1 ≤ fr ∧ 17 ≤ lo ∧ xRi G YX2_put (fr - 1) (lo - 17) [rv (fR h x0 1281), .int 52, .int 0, .int 0, .int 0, .int x7] h6 (fun x13 h12 => xext h6 h12 → bX5_plain_27 G fr lo x0 x1 h12 Q) (fun r h2 => Q (.threw r) h2)) (fun r h2 => Q (.threw r) h2)))
set_option maxRecDepth 100000 in
theorem uX5_plain {G : xG} {fr lo : Nat} {x0 : Nat} {x1 : Nat} {h : xH} {Q : Outcome → xH → Prop} (hq : bX5_plain G fr lo x0 x1 h Q) : xP G YX5_plain fr lo 0 [(0, rv x0), (1, rv x1)] [] h Q := by
  unfold bX5_plain at hq
  refine x_aload_n 1 dX5_plain_0 rfl ?_
  obtain ⟨g1, hq⟩ := hq
  refine x_getN (v := .int (fI h x1 3840)) gfX5_264 dX5_plain_1 g1 rfl ?_
  refine x_bipush (v := 39) dX5_plain_4 (by decide) ?_
  refine x_icmp_eq (tgt := 27) dX5_plain_6 (by decide) (fun c2 => ?_) (fun c2 => ?_)
  · replace hq := hq.1 c2
    exact uX5_plain_27 hq
  · replace hq := hq.2 c2
    refine x_aload_n 0 dX5_plain_9 rfl ?_
    obtain ⟨g3, hq⟩ := hq
    refine x_get (v := rv (fR h x0 1281)) fdX5_62 dX5_plain_10 g3 rfl ?_
    refine x_bipush (v := 52) dX5_plain_13 (by decide) ?_
    refine x_iconst (v := 0) dX5_plain_15 (by decide) ?_
    refine x_iconst (v := 0) dX5_plain_16 (by decide) ?_
    refine x_iconst (v := 0) dX5_plain_17 (by decide) ?_
    refine x_aload_n 0 dX5_plain_18 rfl ?_
    refine x_aload_n 1 dX5_plain_19 rfl ?_
    obtain ⟨g4, g5, hq⟩ := hq
    refine x_callV (Yc := YX5_firstOf) (as := [rv x1]) (st := [.int 0, .int 0, .int 0, .int 52, rv (fR h x0 1281)]) q2510 mvX5_firstOf g3 rfl dX5_plain_20 (xle (xal1 (rv_cat _) (xal1 (rv_cat _) xal0)) (by decide)) (xfr g4) (xlo (xsw1 rfl (xsw1 rfl (xsw1 rfl (xsw1 rfl (xsw1 (rv_cat _) xsw0))))) (by decide) g5) (xKi hq (fun x7 h6 hq e8 => ?_) (fun _ _ q _ => q))
    replace hq := hq e8
    obtain ⟨g9, hq⟩ := hq
    obtain ⟨g10, g11, hq⟩ := hq
    refine x_callV (Yc := YX2_put) (as := [.int 52, .int 0, .int 0, .int 0, .int x7]) (st := []) q2494 mvX2_put g9 rfl dX5_plain_23 (xle (xal1 (rv_cat _) (xal1 rfl (xal1 rfl (xal1 rfl (xal1 rfl (xal1 rfl xal0)))))) (by decide)) (xfr g10) (xlo xsw0 (by decide) g11) (xKi hq (fun x13 h12 hq e14 => ?_) (fun _ _ q _ => q))
    replace hq := hq e14
    refine x_pop dX5_plain_26 rfl ?_
    exact uX5_plain_27 hq
theorem rX5_plain {G : xG} {fr lo : Nat} {x0 : Nat} {x1 : Nat} {h : xH} {Q : Outcome → xH → Prop} (hq : bX5_plain G fr lo x0 x1 h Q) : xR G YX5_plain fr lo [rv x0, rv x1] h Q := by
  show xP _ _ _ _ _ (lv_args 0 _) _ _ _
  rw [show lv_args 0 [rv x0, rv x1] = [(0, rv x0), (1, rv x1)] from (xla1 (rv_cat _) (xla1 (rv_cat _) xla0))]
  exact uX5_plain hq
set_option maxRecDepth 100000 in
theorem dX5_firstOf_0 : decode cX5_firstOf 0 = .ok (.aload_n 1, 1) := by decide +kernel
set_option maxRecDepth 100000 in
theorem dX5_firstOf_1 : decode cX5_firstOf 1 = .ok (.astore_n 2, 1) := by decide +kernel
set_option maxRecDepth 100000 in
theorem dX5_firstOf_2 : decode cX5_firstOf 2 = .ok (.aload_n 2, 1) := by decide +kernel
set_option maxRecDepth 100000 in
theorem dX5_firstOf_3 : decode cX5_firstOf 3 = .ok (.getfield 264, 3) := by decide +kernel
set_option maxRecDepth 100000 in
theorem dX5_firstOf_6 : decode cX5_firstOf 6 = .ok (.bipush 65, 2) := by decide +kernel
set_option maxRecDepth 100000 in
theorem dX5_firstOf_8 : decode cX5_firstOf 8 = .ok (.if_icmp .eq 30, 3) := by decide +kernel
set_option maxRecDepth 100000 in
theorem dX5_firstOf_11 : decode cX5_firstOf 11 = .ok (.aload_n 2, 1) := by decide +kernel
set_option maxRecDepth 100000 in
theorem dX5_firstOf_12 : decode cX5_firstOf 12 = .ok (.getfield 264, 3) := by decide +kernel
set_option maxRecDepth 100000 in
theorem dX5_firstOf_15 : decode cX5_firstOf 15 = .ok (.bipush 62, 2) := by decide +kernel
set_option maxRecDepth 100000 in
theorem dX5_firstOf_17 : decode cX5_firstOf 17 = .ok (.if_icmp .eq 21, 3) := by decide +kernel
set_option maxRecDepth 100000 in
theorem dX5_firstOf_20 : decode cX5_firstOf 20 = .ok (.aload_n 2, 1) := by decide +kernel
set_option maxRecDepth 100000 in
theorem dX5_firstOf_21 : decode cX5_firstOf 21 = .ok (.getfield 264, 3) := by decide +kernel
set_option maxRecDepth 100000 in
theorem dX5_firstOf_24 : decode cX5_firstOf 24 = .ok (.bipush 41, 2) := by decide +kernel
set_option maxRecDepth 100000 in
theorem dX5_firstOf_26 : decode cX5_firstOf 26 = .ok (.if_icmp .eq 12, 3) := by decide +kernel
set_option maxRecDepth 100000 in
theorem dX5_firstOf_29 : decode cX5_firstOf 29 = .ok (.aload_n 2, 1) := by decide +kernel
set_option maxRecDepth 100000 in
theorem dX5_firstOf_30 : decode cX5_firstOf 30 = .ok (.getfield 264, 3) := by decide +kernel
set_option maxRecDepth 100000 in
theorem dX5_firstOf_33 : decode cX5_firstOf 33 = .ok (.bipush 56, 2) := by decide +kernel
set_option maxRecDepth 100000 in
theorem dX5_firstOf_35 : decode cX5_firstOf 35 = .ok (.if_icmp .ne 11, 3) := by decide +kernel
set_option maxRecDepth 100000 in
theorem dX5_firstOf_38 : decode cX5_firstOf 38 = .ok (.aload_n 2, 1) := by decide +kernel
set_option maxRecDepth 100000 in
theorem dX5_firstOf_39 : decode cX5_firstOf 39 = .ok (.getfield 251, 3) := by decide +kernel
set_option maxRecDepth 100000 in
theorem dX5_firstOf_42 : decode cX5_firstOf 42 = .ok (.astore_n 2, 1) := by decide +kernel
set_option maxRecDepth 100000 in
theorem dX5_firstOf_43 : decode cX5_firstOf 43 = .ok (.goto (-41), 3) := by decide +kernel
set_option maxRecDepth 100000 in
theorem dX5_firstOf_46 : decode cX5_firstOf 46 = .ok (.aload_n 2, 1) := by decide +kernel
set_option maxRecDepth 100000 in
theorem dX5_firstOf_47 : decode cX5_firstOf 47 = .ok (.invokevirtual 192, 3) := by decide +kernel
set_option maxRecDepth 100000 in
theorem dX5_firstOf_50 : decode cX5_firstOf 50 = .ok (.ireturn, 1) := by decide +kernel
def lX5_firstOf_2 (G : xG) (fr lo : Nat) (x2 : Nat) (h : xH) (Q : Outcome → xH → Prop) : Prop := xP G YX5_firstOf fr lo 2 [(2, rv x2)] [] h Q
set_option maxRecDepth 100000 in
def bX5_firstOf_38 (G : xG) (fr lo : Nat) (x2 : Nat) (h : xH) (Q : Outcome → xH → Prop) : Prop := tg h x2 = 16 ∧ lX5_firstOf_2 G fr lo (fR h x2 3842) h Q
set_option maxRecDepth 100000 in
theorem uX5_firstOf_38 {G : xG} {fr lo : Nat} {x2 : Nat} {h : xH} {Q : Outcome → xH → Prop} (hq : bX5_firstOf_38 G fr lo x2 h Q) : xP G YX5_firstOf fr lo 38 [(2, rv x2)] [] h Q := by
  unfold bX5_firstOf_38 at hq
  refine x_aload_n 0 dX5_firstOf_38 rfl ?_
  obtain ⟨g1, hq⟩ := hq
  refine x_getN (v := rv (fR h x2 3842)) gfX5_251 dX5_firstOf_39 g1 rfl ?_
  refine x_astore_n (lv' := [(2, rv (fR h x2 3842))]) dX5_firstOf_42 (by decide) rfl ?_
  refine x_goto (tgt := 2) dX5_firstOf_43 (by decide) ?_
  exact hq
set_option maxRecDepth 100000 in
def bX5_firstOf_2 (G : xG) (fr lo : Nat) (x2 : Nat) (h : xH) (Q : Outcome → xH → Prop) : Prop := tg h x2 = 16 ∧ (((fI h x2 3840) = 65 → bX5_firstOf_38 G fr lo x2 h Q) ∧ (¬ (fI h x2 3840) = 65 → (((fI h x2 3840) = 62 → bX5_firstOf_38 G fr lo x2 h Q) ∧ (¬ (fI h x2 3840) = 62 → (((fI h x2 3840) = 41 → bX5_firstOf_38 G fr lo x2 h Q) ∧ (¬ (fI h x2 3840) = 41 → ((¬ (fI h x2 3840) = 56 → 1 ≤ fr ∧ 12 ≤ lo ∧ xRi G YX15_place (fr - 1) (lo - 12) [rv x2] h (fun x9 h8 => xext h h8 → Q (.returned (some (.int x9))) h8) (fun r h2 => Q (.threw r) h2)) ∧ ((fI h x2 3840) = 56 → bX5_firstOf_38 G fr lo x2 h Q))))))))
set_option maxRecDepth 100000 in
theorem uX5_firstOf_2 {G : xG} {fr lo : Nat} {x2 : Nat} {h : xH} {Q : Outcome → xH → Prop} (hq : bX5_firstOf_2 G fr lo x2 h Q) : xP G YX5_firstOf fr lo 2 [(2, rv x2)] [] h Q := by
  unfold bX5_firstOf_2 at hq
  refine x_aload_n 0 dX5_firstOf_2 rfl ?_
  obtain ⟨g1, hq⟩ := hq
  refine x_getN (v := .int (fI h x2 3840)) gfX5_264 dX5_firstOf_3 g1 rfl ?_
  refine x_bipush (v := 65) dX5_firstOf_6 (by decide) ?_
  refine x_icmp_eq (tgt := 38) dX5_firstOf_8 (by decide) (fun c2 => ?_) (fun c2 => ?_)
  · replace hq := hq.1 c2
    exact uX5_firstOf_38 hq
  · replace hq := hq.2 c2
    refine x_aload_n 0 dX5_firstOf_11 rfl ?_
    refine x_getN (v := .int (fI h x2 3840)) gfX5_264 dX5_firstOf_12 g1 rfl ?_
    refine x_bipush (v := 62) dX5_firstOf_15 (by decide) ?_
    refine x_icmp_eq (tgt := 38) dX5_firstOf_17 (by decide) (fun c3 => ?_) (fun c3 => ?_)
    · replace hq := hq.1 c3
      exact uX5_firstOf_38 hq
    · replace hq := hq.2 c3
      refine x_aload_n 0 dX5_firstOf_20 rfl ?_
      refine x_getN (v := .int (fI h x2 3840)) gfX5_264 dX5_firstOf_21 g1 rfl ?_
      refine x_bipush (v := 41) dX5_firstOf_24 (by decide) ?_
      refine x_icmp_eq (tgt := 38) dX5_firstOf_26 (by decide) (fun c4 => ?_) (fun c4 => ?_)
      · replace hq := hq.1 c4
        exact uX5_firstOf_38 hq
      · replace hq := hq.2 c4
        refine x_aload_n 0 dX5_firstOf_29 rfl ?_
        refine x_getN (v := .int (fI h x2 3840)) gfX5_264 dX5_firstOf_30 g1 rfl ?_
        refine x_bipush (v := 56) dX5_firstOf_33 (by decide) ?_
        refine x_icmp_ne (tgt := 46) dX5_firstOf_35 (by decide) (fun c5 => ?_) (fun c5 => ?_)
        · replace hq := hq.1 c5
          refine x_aload_n 0 dX5_firstOf_46 rfl ?_
          obtain ⟨g6, g7, hq⟩ := hq
          refine x_callV (Yc := YX15_place) (as := []) (st := []) q2013 mvX15_place g1 rfl dX5_firstOf_47 (xle (xal1 (rv_cat _) xal0) (by decide)) (xfr g6) (xlo xsw0 (by decide) g7) (xKi hq (fun x9 h8 hq e10 => ?_) (fun _ _ q _ => q))
          replace hq := hq e10
          exact x_iret rfl rfl dX5_firstOf_50 hq
        · replace hq := hq.2 c5
          exact uX5_firstOf_38 hq
set_option maxRecDepth 100000 in
def bX5_firstOf (G : xG) (fr lo : Nat) (x0 : Nat) (x1 : Nat) (h : xH) (Q : Outcome → xH → Prop) : Prop := lX5_firstOf_2 G fr lo x1 h Q
set_option maxRecDepth 100000 in
theorem uX5_firstOf {G : xG} {fr lo : Nat} {x0 : Nat} {x1 : Nat} {h : xH} {Q : Outcome → xH → Prop} (hq : bX5_firstOf G fr lo x0 x1 h Q) : xP G YX5_firstOf fr lo 0 [(0, rv x0), (1, rv x1)] [] h Q := by
  unfold bX5_firstOf at hq
  refine x_aload_n 1 dX5_firstOf_0 rfl ?_
  refine x_astore_n (lv' := [(2, rv x1), (0, rv x0), (1, rv x1)]) dX5_firstOf_1 (by decide) (by first | rfl | (simp [rv_cat, Value.category]; done) | (simp [rv_cat, Value.category]; decide)) ?_
  refine xP.pick (lv' := [(2, rv x1)]) [0] rfl ?_
  exact hq
theorem rX5_firstOf {G : xG} {fr lo : Nat} {x0 : Nat} {x1 : Nat} {h : xH} {Q : Outcome → xH → Prop} (hq : bX5_firstOf G fr lo x0 x1 h Q) : xR G YX5_firstOf fr lo [rv x0, rv x1] h Q := by
  show xP _ _ _ _ _ (lv_args 0 _) _ _ _
  rw [show lv_args 0 [rv x0, rv x1] = [(0, rv x0), (1, rv x1)] from (xla1 (rv_cat _) (xla1 (rv_cat _) xla0))]
  exact uX5_firstOf hq
set_option maxRecDepth 100000 in
theorem dX5_branch_0 : decode cX5_branch 0 = .ok (.aload_n 0, 1) := by decide +kernel
set_option maxRecDepth 100000 in
theorem dX5_branch_1 : decode cX5_branch 1 = .ok (.aload_n 1, 1) := by decide +kernel
set_option maxRecDepth 100000 in
theorem dX5_branch_2 : decode cX5_branch 2 = .ok (.invokevirtual 636, 3) := by decide +kernel
set_option maxRecDepth 100000 in
theorem dX5_branch_5 : decode cX5_branch 5 = .ok (.aload_n 0, 1) := by decide +kernel
set_option maxRecDepth 100000 in
theorem dX5_branch_6 : decode cX5_branch 6 = .ok (.getfield 62, 3) := by decide +kernel
set_option maxRecDepth 100000 in
theorem dX5_branch_9 : decode cX5_branch 9 = .ok (.bipush 51, 2) := by decide +kernel
set_option maxRecDepth 100000 in
theorem dX5_branch_11 : decode cX5_branch 11 = .ok (.iconst 0, 1) := by decide +kernel
set_option maxRecDepth 100000 in
theorem dX5_branch_12 : decode cX5_branch 12 = .ok (.iconst 0, 1) := by decide +kernel
set_option maxRecDepth 100000 in
theorem dX5_branch_13 : decode cX5_branch 13 = .ok (.iconst 0, 1) := by decide +kernel
set_option maxRecDepth 100000 in
theorem dX5_branch_14 : decode cX5_branch 14 = .ok (.iconst 0, 1) := by decide +kernel
set_option maxRecDepth 100000 in
theorem dX5_branch_15 : decode cX5_branch 15 = .ok (.invokevirtual 506, 3) := by decide +kernel
set_option maxRecDepth 100000 in
theorem dX5_branch_18 : decode cX5_branch 18 = .ok (.istore_n 2, 1) := by decide +kernel
set_option maxRecDepth 100000 in
theorem dX5_branch_19 : decode cX5_branch 19 = .ok (.aload_n 0, 1) := by decide +kernel
set_option maxRecDepth 100000 in
theorem dX5_branch_20 : decode cX5_branch 20 = .ok (.aload_n 1, 1) := by decide +kernel
set_option maxRecDepth 100000 in
theorem dX5_branch_21 : decode cX5_branch 21 = .ok (.iconst 1, 1) := by decide +kernel
set_option maxRecDepth 100000 in
theorem dX5_branch_22 : decode cX5_branch 22 = .ok (.invokevirtual 310, 3) := by decide +kernel
set_option maxRecDepth 100000 in
theorem dX5_branch_25 : decode cX5_branch 25 = .ok (.invokevirtual 657, 3) := by decide +kernel
set_option maxRecDepth 100000 in
theorem dX5_branch_28 : decode cX5_branch 28 = .ok (.aload_n 1, 1) := by decide +kernel
set_option maxRecDepth 100000 in
theorem dX5_branch_29 : decode cX5_branch 29 = .ok (.getfield 293, 3) := by decide +kernel
set_option maxRecDepth 100000 in
theorem dX5_branch_32 : decode cX5_branch 32 = .ok (.iconst 2, 1) := by decide +kernel
set_option maxRecDepth 100000 in
theorem dX5_branch_33 : decode cX5_branch 33 = .ok (.if_icmp .ne 19, 3) := by decide +kernel
set_option maxRecDepth 100000 in
theorem dX5_branch_36 : decode cX5_branch 36 = .ok (.aload_n 0, 1) := by decide +kernel
set_option maxRecDepth 100000 in
theorem dX5_branch_37 : decode cX5_branch 37 = .ok (.getfield 62, 3) := by decide +kernel
set_option maxRecDepth 100000 in
theorem dX5_branch_40 : decode cX5_branch 40 = .ok (.iload_n 2, 1) := by decide +kernel
set_option maxRecDepth 100000 in
theorem dX5_branch_41 : decode cX5_branch 41 = .ok (.aload_n 0, 1) := by decide +kernel
set_option maxRecDepth 100000 in
theorem dX5_branch_42 : decode cX5_branch 42 = .ok (.getfield 62, 3) := by decide +kernel
set_option maxRecDepth 100000 in
theorem dX5_branch_45 : decode cX5_branch 45 = .ok (.getfield 501, 3) := by decide +kernel
set_option maxRecDepth 100000 in
theorem dX5_branch_48 : decode cX5_branch 48 = .ok (.invokevirtual 660, 3) := by decide +kernel
set_option maxRecDepth 100000 in
theorem dX5_branch_51 : decode cX5_branch 51 = .ok (.return_, 1) := by decide +kernel
set_option maxRecDepth 100000 in
theorem dX5_branch_52 : decode cX5_branch 52 = .ok (.aload_n 0, 1) := by decide +kernel
set_option maxRecDepth 100000 in
theorem dX5_branch_53 : decode cX5_branch 53 = .ok (.getfield 62, 3) := by decide +kernel
set_option maxRecDepth 100000 in
theorem dX5_branch_56 : decode cX5_branch 56 = .ok (.bipush 50, 2) := by decide +kernel
set_option maxRecDepth 100000 in
theorem dX5_branch_58 : decode cX5_branch 58 = .ok (.iconst 0, 1) := by decide +kernel
set_option maxRecDepth 100000 in
theorem dX5_branch_59 : decode cX5_branch 59 = .ok (.iconst 0, 1) := by decide +kernel
set_option maxRecDepth 100000 in
theorem dX5_branch_60 : decode cX5_branch 60 = .ok (.iconst 0, 1) := by decide +kernel
set_option maxRecDepth 100000 in
theorem dX5_branch_61 : decode cX5_branch 61 = .ok (.iconst 0, 1) := by decide +kernel
set_option maxRecDepth 100000 in
theorem dX5_branch_62 : decode cX5_branch 62 = .ok (.invokevirtual 506, 3) := by decide +kernel
set_option maxRecDepth 100000 in
theorem dX5_branch_65 : decode cX5_branch 65 = .ok (.istore_n 3, 1) := by decide +kernel
set_option maxRecDepth 100000 in
theorem dX5_branch_66 : decode cX5_branch 66 = .ok (.aload_n 0, 1) := by decide +kernel
set_option maxRecDepth 100000 in
theorem dX5_branch_67 : decode cX5_branch 67 = .ok (.getfield 62, 3) := by decide +kernel
set_option maxRecDepth 100000 in
theorem dX5_branch_70 : decode cX5_branch 70 = .ok (.iload_n 2, 1) := by decide +kernel
set_option maxRecDepth 100000 in
theorem dX5_branch_71 : decode cX5_branch 71 = .ok (.aload_n 0, 1) := by decide +kernel
set_option maxRecDepth 100000 in
theorem dX5_branch_72 : decode cX5_branch 72 = .ok (.getfield 62, 3) := by decide +kernel
set_option maxRecDepth 100000 in
theorem dX5_branch_75 : decode cX5_branch 75 = .ok (.getfield 501, 3) := by decide +kernel
set_option maxRecDepth 100000 in
theorem dX5_branch_78 : decode cX5_branch 78 = .ok (.invokevirtual 660, 3) := by decide +kernel
set_option maxRecDepth 100000 in
theorem dX5_branch_81 : decode cX5_branch 81 = .ok (.aload_n 0, 1) := by decide +kernel
set_option maxRecDepth 100000 in
theorem dX5_branch_82 : decode cX5_branch 82 = .ok (.aload_n 1, 1) := by decide +kernel
set_option maxRecDepth 100000 in
theorem dX5_branch_83 : decode cX5_branch 83 = .ok (.iconst 2, 1) := by decide +kernel
set_option maxRecDepth 100000 in
theorem dX5_branch_84 : decode cX5_branch 84 = .ok (.invokevirtual 310, 3) := by decide +kernel
set_option maxRecDepth 100000 in
theorem dX5_branch_87 : decode cX5_branch 87 = .ok (.invokevirtual 657, 3) := by decide +kernel
set_option maxRecDepth 100000 in
theorem dX5_branch_90 : decode cX5_branch 90 = .ok (.aload_n 0, 1) := by decide +kernel
set_option maxRecDepth 100000 in
theorem dX5_branch_91 : decode cX5_branch 91 = .ok (.getfield 62, 3) := by decide +kernel
set_option maxRecDepth 100000 in
theorem dX5_branch_94 : decode cX5_branch 94 = .ok (.iload_n 3, 1) := by decide +kernel
set_option maxRecDepth 100000 in
theorem dX5_branch_95 : decode cX5_branch 95 = .ok (.aload_n 0, 1) := by decide +kernel
set_option maxRecDepth 100000 in
theorem dX5_branch_96 : decode cX5_branch 96 = .ok (.getfield 62, 3) := by decide +kernel
set_option maxRecDepth 100000 in
theorem dX5_branch_99 : decode cX5_branch 99 = .ok (.getfield 501, 3) := by decide +kernel
set_option maxRecDepth 100000 in
theorem dX5_branch_102 : decode cX5_branch 102 = .ok (.invokevirtual 660, 3) := by decide +kernel
set_option maxRecDepth 100000 in
theorem dX5_branch_105 : decode cX5_branch 105 = .ok (.return_, 1) := by decide +kernel
set_option maxRecDepth 100000 in
def bX5_branch (G : xG) (fr lo : Nat) (x0 : Nat) (x1 : Nat) (h : xH) (Q : Outcome → xH → Prop) : Prop := tg h x0 = 6 ∧ 1 ≤ fr ∧ 13 ≤ lo ∧ xRv G YX5_truth (fr - 1) (lo - 13) [rv x0, rv x1] h (fun h4 => xext h h4 → tg h4 (fR h4 x0 1281) = 3 ∧ 1 ≤ fr ∧ 17 ≤ lo ∧ xRi G YX2_put (fr - 1) (lo - 17) [rv (fR h4 x0 1281), .int 51, .int 0, .int 0, .int 0, .int 0] h4 (fun x12 h11 => xext h4 h11 → tg h11 x1 = 16 ∧ 1 ≤ fr ∧ 16 ≤ lo ∧ xRr G YX15_kid (fr - 1) (lo - 16) [rv x1, .int 1] h11 (fun x18 h17 => xext h11 h17 → 1 ≤ fr ∧ 13 ≤ lo ∧ xRv G YX5_inner (fr - 1) (lo - 13) [rv x0, rv x18] h17 (fun h24 => xext h17 h24 → ((¬ (fI h24 x1 3845) = 2 → tg h24 (fR h24 x0 1281) = 3 ∧ 1 ≤ fr ∧ 17 ≤ lo ∧ xRi G YX2_put (fr - 1) (lo - 17) [rv (fR h24 x0 1281), .int 50, .int 0, .int 0, .int 0, .int 0] h24 (fun x35 h34 => xext h24 h34 → tg h34 (fR h34 x0 1281) = 3 ∧ 1 ≤ fr ∧ 14 ≤ lo ∧ xRv G YX2_go (fr - 1) (lo - 14) [rv (fR h34 x0 1281), .int x12, .int (fI h34 (fR h34 x0 1281) 517)] h34 (fun h41 => xext h34 h41 → 1 ≤ fr ∧ 16 ≤ lo ∧ xRr G YX15_kid (fr - 1) (lo - 16) [rv x1, .int 2] h41 (fun x49 h48 => xext h41 h48 → 1 ≤ fr ∧ 13 ≤ lo ∧ xRv G YX5_inner (fr - 1) (lo - 13) [rv x0, rv x49] h48 (fun h55 => xext h48 h55 → tg h55 (fR h55 x0 1281) = 3 ∧ 1 ≤ fr ∧ 14 ≤ lo ∧ xRv G YX2_go (fr - 1) (lo - 14) [rv (fR h55 x0 1281), .int x35, .int (fI h55 (fR h55 x0 1281) 517)] h55 (fun h62 => xext h55 h62 → Q (.returned none) h62) (fun r h2 => Q (.threw r) h2)) (fun r h2 => Q (.threw r) h2)) (fun r h2 => Q (.threw r) h2)) (fun r h2 => Q (.threw r) h2)) (fun r h2 => Q (.threw r) h2)) ∧ ((fI h24 x1 3845) = 2 → tg h24 (fR h24 x0 1281) = 3 ∧ 1 ≤ fr ∧ 14 ≤ lo ∧ xRv G YX2_go (fr - 1) (lo - 14) [rv (fR h24 x0 1281), .int x12, .int (fI h24 (fR h24 x0 1281) 517)] h24 (fun h69 => xext h24 h69 → Q (.returned none) h69) (fun r h2 => Q (.threw r) h2)))) (fun r h2 => Q (.threw r) h2)) (fun r h2 => Q (.threw r) h2)) (fun r h2 => Q (.threw r) h2)) (fun r h2 => Q (.threw r) h2)
set_option maxRecDepth 100000 in
theorem uX5_branch {G : xG} {fr lo : Nat} {x0 : Nat} {x1 : Nat} {h : xH} {Q : Outcome → xH → Prop} (hq : bX5_branch G fr lo x0 x1 h Q) : xP G YX5_branch fr lo 0 [(0, rv x0), (1, rv x1)] [] h Q := by
  unfold bX5_branch at hq
  refine x_aload_n 0 dX5_branch_0 rfl ?_
  refine x_aload_n 1 dX5_branch_1 rfl ?_
  obtain ⟨g1, hq⟩ := hq
  obtain ⟨g2, g3, hq⟩ := hq
  refine x_callV (Yc := YX5_truth) (as := [rv x1]) (st := []) q2518 mvX5_truth g1 rfl dX5_branch_2 (xle (xal1 (rv_cat _) (xal1 (rv_cat _) xal0)) (by decide)) (xfr g2) (xlo xsw0 (by decide) g3) (xKv hq (fun h4 hq e6 => ?_) (fun _ _ q _ => q))
  replace hq := hq e6
  refine x_aload_n 0 dX5_branch_5 rfl ?_
  have t7 : tg h4 x0 = 6 := e6.tg g1 (by decide)
  refine x_get (v := rv (fR h4 x0 1281)) fdX5_62 dX5_branch_6 t7 rfl ?_
  refine x_bipush (v := 51) dX5_branch_9 (by decide) ?_
  refine x_iconst (v := 0) dX5_branch_11 (by decide) ?_
  refine x_iconst (v := 0) dX5_branch_12 (by decide) ?_
  refine x_iconst (v := 0) dX5_branch_13 (by decide) ?_
  refine x_iconst (v := 0) dX5_branch_14 (by decide) ?_
  obtain ⟨g8, hq⟩ := hq
  obtain ⟨g9, g10, hq⟩ := hq
  refine x_callV (Yc := YX2_put) (as := [.int 51, .int 0, .int 0, .int 0, .int 0]) (st := []) q2494 mvX2_put g8 rfl dX5_branch_15 (xle (xal1 (rv_cat _) (xal1 rfl (xal1 rfl (xal1 rfl (xal1 rfl (xal1 rfl xal0)))))) (by decide)) (xfr g9) (xlo xsw0 (by decide) g10) (xKi hq (fun x12 h11 hq e13 => ?_) (fun _ _ q _ => q))
  replace hq := hq e13
  refine x_istore_n (lv' := [(2, .int x12), (0, rv x0), (1, rv x1)]) dX5_branch_18 (by decide) (by first | rfl | (simp [rv_cat, Value.category]; done) | (simp [rv_cat, Value.category]; decide)) ?_
  refine x_aload_n 1 dX5_branch_19 rfl ?_
  refine x_aload_n 2 dX5_branch_20 rfl ?_
  refine x_iconst (v := 1) dX5_branch_21 (by decide) ?_
  obtain ⟨g14, hq⟩ := hq
  obtain ⟨g15, g16, hq⟩ := hq
  refine x_callV (Yc := YX15_kid) (as := [.int 1]) (st := [rv x0]) q2129 mvX15_kid g14 rfl dX5_branch_22 (xle (xal1 (rv_cat _) (xal1 rfl xal0)) (by decide)) (xfr g15) (xlo (xsw1 (rv_cat _) xsw0) (by decide) g16) (xKr hq (fun x18 h17 hq e19 => ?_) (fun _ _ q _ => q))
  replace hq := hq e19
  have t20 : tg h11 x0 = 6 := e13.tg t7 (by decide)
  have t21 : tg h17 x0 = 6 := e19.tg t20 (by decide)
  obtain ⟨g22, g23, hq⟩ := hq
  refine x_callV (Yc := YX5_inner) (as := [rv x18]) (st := []) q2696 mvX5_inner t21 rfl dX5_branch_25 (xle (xal1 (rv_cat _) (xal1 (rv_cat _) xal0)) (by decide)) (xfr g22) (xlo xsw0 (by decide) g23) (xKv hq (fun h24 hq e26 => ?_) (fun _ _ q _ => q))
  replace hq := hq e26
  refine x_aload_n 2 dX5_branch_28 rfl ?_
  have t27 : tg h17 x1 = 16 := e19.tg g14 (by decide)
  have t28 : tg h24 x1 = 16 := e26.tg t27 (by decide)
  refine x_getN (v := .int (fI h24 x1 3845)) gfX5_293 dX5_branch_29 t28 rfl ?_
  refine x_iconst (v := 2) dX5_branch_32 (by decide) ?_
  refine x_icmp_ne (tgt := 52) dX5_branch_33 (by decide) (fun c29 => ?_) (fun c29 => ?_)
  · replace hq := hq.1 c29
    refine x_aload_n 1 dX5_branch_52 rfl ?_
    have t30 : tg h24 x0 = 6 := e26.tg t21 (by decide)
    refine x_get (v := rv (fR h24 x0 1281)) fdX5_62 dX5_branch_53 t30 rfl ?_
    refine x_bipush (v := 50) dX5_branch_56 (by decide) ?_
    refine x_iconst (v := 0) dX5_branch_58 (by decide) ?_
    refine x_iconst (v := 0) dX5_branch_59 (by decide) ?_
    refine x_iconst (v := 0) dX5_branch_60 (by decide) ?_
    refine x_iconst (v := 0) dX5_branch_61 (by decide) ?_
    obtain ⟨g31, hq⟩ := hq
    obtain ⟨g32, g33, hq⟩ := hq
    refine x_callV (Yc := YX2_put) (as := [.int 50, .int 0, .int 0, .int 0, .int 0]) (st := []) q2494 mvX2_put g31 rfl dX5_branch_62 (xle (xal1 (rv_cat _) (xal1 rfl (xal1 rfl (xal1 rfl (xal1 rfl (xal1 rfl xal0)))))) (by decide)) (xfr g32) (xlo xsw0 (by decide) g33) (xKi hq (fun x35 h34 hq e36 => ?_) (fun _ _ q _ => q))
    replace hq := hq e36
    refine x_istore_n (lv' := [(3, .int x35), (2, .int x12), (0, rv x0), (1, rv x1)]) dX5_branch_65 (by decide) rfl ?_
    refine x_aload_n 2 dX5_branch_66 rfl ?_
    have t37 : tg h34 x0 = 6 := e36.tg t30 (by decide)
    refine x_get (v := rv (fR h34 x0 1281)) fdX5_62 dX5_branch_67 t37 rfl ?_
    refine x_iload_n 1 dX5_branch_70 rfl ?_
    refine x_aload_n 2 dX5_branch_71 rfl ?_
    refine x_get (v := rv (fR h34 x0 1281)) fdX5_62 dX5_branch_72 t37 rfl ?_
    obtain ⟨g38, hq⟩ := hq
    refine x_getN (v := .int (fI h34 (fR h34 x0 1281) 517)) gfX5_501 dX5_branch_75 g38 rfl ?_
    obtain ⟨g39, g40, hq⟩ := hq
    refine x_callV (Yc := YX2_go) (as := [.int x12, .int (fI h34 (fR h34 x0 1281) 517)]) (st := []) q2700 mvX2_go g38 rfl dX5_branch_78 (xle (xal1 (rv_cat _) (xal1 rfl (xal1 rfl xal0))) (by decide)) (xfr g39) (xlo xsw0 (by decide) g40) (xKv hq (fun h41 hq e43 => ?_) (fun _ _ q _ => q))
    replace hq := hq e43
    refine x_aload_n 2 dX5_branch_81 rfl ?_
    refine x_aload_n 3 dX5_branch_82 rfl ?_
    refine x_iconst (v := 2) dX5_branch_83 (by decide) ?_
    have t44 : tg h34 x1 = 16 := e36.tg t28 (by decide)
    have t45 : tg h41 x1 = 16 := e43.tg t44 (by decide)
    obtain ⟨g46, g47, hq⟩ := hq
    refine x_callV (Yc := YX15_kid) (as := [.int 2]) (st := [rv x0]) q2129 mvX15_kid t45 rfl dX5_branch_84 (xle (xal1 (rv_cat _) (xal1 rfl xal0)) (by decide)) (xfr g46) (xlo (xsw1 (rv_cat _) xsw0) (by decide) g47) (xKr hq (fun x49 h48 hq e50 => ?_) (fun _ _ q _ => q))
    replace hq := hq e50
    have t51 : tg h41 x0 = 6 := e43.tg t37 (by decide)
    have t52 : tg h48 x0 = 6 := e50.tg t51 (by decide)
    obtain ⟨g53, g54, hq⟩ := hq
    refine x_callV (Yc := YX5_inner) (as := [rv x49]) (st := []) q2696 mvX5_inner t52 rfl dX5_branch_87 (xle (xal1 (rv_cat _) (xal1 (rv_cat _) xal0)) (by decide)) (xfr g53) (xlo xsw0 (by decide) g54) (xKv hq (fun h55 hq e57 => ?_) (fun _ _ q _ => q))
    replace hq := hq e57
    refine x_aload_n 2 dX5_branch_90 rfl ?_
    have t58 : tg h55 x0 = 6 := e57.tg t52 (by decide)
    refine x_get (v := rv (fR h55 x0 1281)) fdX5_62 dX5_branch_91 t58 rfl ?_
    refine x_iload_n 0 dX5_branch_94 rfl ?_
    refine x_aload_n 2 dX5_branch_95 rfl ?_
    refine x_get (v := rv (fR h55 x0 1281)) fdX5_62 dX5_branch_96 t58 rfl ?_
    obtain ⟨g59, hq⟩ := hq
    refine x_getN (v := .int (fI h55 (fR h55 x0 1281) 517)) gfX5_501 dX5_branch_99 g59 rfl ?_
    obtain ⟨g60, g61, hq⟩ := hq
    refine x_callV (Yc := YX2_go) (as := [.int x35, .int (fI h55 (fR h55 x0 1281) 517)]) (st := []) q2700 mvX2_go g59 rfl dX5_branch_102 (xle (xal1 (rv_cat _) (xal1 rfl (xal1 rfl xal0))) (by decide)) (xfr g60) (xlo xsw0 (by decide) g61) (xKv hq (fun h62 hq e64 => ?_) (fun _ _ q _ => q))
    replace hq := hq e64
    exact x_vret rfl dX5_branch_105 hq
  · replace hq := hq.2 c29
    refine x_aload_n 1 dX5_branch_36 rfl ?_
    have t65 : tg h24 x0 = 6 := e26.tg t21 (by decide)
    refine x_get (v := rv (fR h24 x0 1281)) fdX5_62 dX5_branch_37 t65 rfl ?_
    refine x_iload_n 0 dX5_branch_40 rfl ?_
    refine x_aload_n 1 dX5_branch_41 rfl ?_
    refine x_get (v := rv (fR h24 x0 1281)) fdX5_62 dX5_branch_42 t65 rfl ?_
    obtain ⟨g66, hq⟩ := hq
    refine x_getN (v := .int (fI h24 (fR h24 x0 1281) 517)) gfX5_501 dX5_branch_45 g66 rfl ?_
    obtain ⟨g67, g68, hq⟩ := hq
    refine x_callV (Yc := YX2_go) (as := [.int x12, .int (fI h24 (fR h24 x0 1281) 517)]) (st := []) q2700 mvX2_go g66 rfl dX5_branch_48 (xle (xal1 (rv_cat _) (xal1 rfl (xal1 rfl xal0))) (by decide)) (xfr g67) (xlo xsw0 (by decide) g68) (xKv hq (fun h69 hq e71 => ?_) (fun _ _ q _ => q))
    replace hq := hq e71
    exact x_vret rfl dX5_branch_51 hq
theorem rX5_branch {G : xG} {fr lo : Nat} {x0 : Nat} {x1 : Nat} {h : xH} {Q : Outcome → xH → Prop} (hq : bX5_branch G fr lo x0 x1 h Q) : xR G YX5_branch fr lo [rv x0, rv x1] h Q := by
  show xP _ _ _ _ _ (lv_args 0 _) _ _ _
  rw [show lv_args 0 [rv x0, rv x1] = [(0, rv x0), (1, rv x1)] from (xla1 (rv_cat _) (xla1 (rv_cat _) xla0))]
  exact uX5_branch hq
set_option maxRecDepth 100000 in
theorem dX5_truth_0 : decode cX5_truth 0 = .ok (.aload_n 0, 1) := by decide +kernel
set_option maxRecDepth 100000 in
theorem dX5_truth_1 : decode cX5_truth 1 = .ok (.aload_n 1, 1) := by decide +kernel
set_option maxRecDepth 100000 in
theorem dX5_truth_2 : decode cX5_truth 2 = .ok (.getfield 251, 3) := by decide +kernel
set_option maxRecDepth 100000 in
theorem dX5_truth_5 : decode cX5_truth 5 = .ok (.invokevirtual 654, 3) := by decide +kernel
set_option maxRecDepth 100000 in
theorem dX5_truth_8 : decode cX5_truth 8 = .ok (.aload_n 0, 1) := by decide +kernel
set_option maxRecDepth 100000 in
theorem dX5_truth_9 : decode cX5_truth 9 = .ok (.getfield 29, 3) := by decide +kernel
set_option maxRecDepth 100000 in
theorem dX5_truth_12 : decode cX5_truth 12 = .ok (.if_acmp .eq 14, 3) := by decide +kernel
set_option maxRecDepth 100000 in
theorem dX5_truth_15 : decode cX5_truth 15 = .ok (.aload_n 0, 1) := by decide +kernel
set_option maxRecDepth 100000 in
theorem dX5_truth_16 : decode cX5_truth 16 = .ok (.bipush 7, 2) := by decide +kernel
set_option maxRecDepth 100000 in
theorem dX5_truth_18 : decode cX5_truth 18 = .ok (.aload_n 1, 1) := by decide +kernel
set_option maxRecDepth 100000 in
theorem dX5_truth_19 : decode cX5_truth 19 = .ok (.invokevirtual 192, 3) := by decide +kernel
set_option maxRecDepth 100000 in
theorem dX5_truth_22 : decode cX5_truth 22 = .ok (.invokevirtual 163, 3) := by decide +kernel
set_option maxRecDepth 100000 in
theorem dX5_truth_25 : decode cX5_truth 25 = .ok (.athrow, 1) := by decide +kernel
set_option maxRecDepth 100000 in
theorem dX5_truth_26 : decode cX5_truth 26 = .ok (.return_, 1) := by decide +kernel
set_option maxRecDepth 100000 in
def bX5_truth (G : xG) (fr lo : Nat) (x0 : Nat) (x1 : Nat) (h : xH) (Q : Outcome → xH → Prop) : Prop := tg h x1 = 16 ∧ tg h x0 = 6 ∧ 1 ≤ fr ∧ 13 ≤ lo ∧ xRr G YX5_expression (fr - 1) (lo - 13) [rv x0, rv (fR h x1 3842)] h (fun x6 h5 => xext h h5 → ((x6 = (fR h5 x0 1284) → Q (.returned none) h5) ∧ (¬ x6 = (fR h5 x0 1284) → 1 ≤ fr ∧ 14 ≤ lo ∧ xRi G YX15_place (fr - 1) (lo - 14) [rv x1] h5 (fun x14 h13 => xext h5 h13 → 1 ≤ fr ∧ 14 ≤ lo ∧ xRr G YX5_fault (fr - 1) (lo - 14) [rv x0, .int 7, .int x14] h13 (fun x20 h19 => xext h13 h19 → (∃ r22, x20 = r22 + 1 ∧ Q (.threw r22) h19)) (fun r h2 => Q (.threw r) h2)) (fun r h2 => Q (.threw r) h2)))) (fun r h2 => Q (.threw r) h2)
set_option maxRecDepth 100000 in
theorem uX5_truth {G : xG} {fr lo : Nat} {x0 : Nat} {x1 : Nat} {h : xH} {Q : Outcome → xH → Prop} (hq : bX5_truth G fr lo x0 x1 h Q) : xP G YX5_truth fr lo 0 [(0, rv x0), (1, rv x1)] [] h Q := by
  unfold bX5_truth at hq
  refine x_aload_n 0 dX5_truth_0 rfl ?_
  refine x_aload_n 1 dX5_truth_1 rfl ?_
  obtain ⟨g1, hq⟩ := hq
  refine x_getN (v := rv (fR h x1 3842)) gfX5_251 dX5_truth_2 g1 rfl ?_
  obtain ⟨g2, hq⟩ := hq
  obtain ⟨g3, g4, hq⟩ := hq
  refine x_callV (Yc := YX5_expression) (as := [rv (fR h x1 3842)]) (st := []) q2522 mvX5_expression g2 rfl dX5_truth_5 (xle (xal1 (rv_cat _) (xal1 (rv_cat _) xal0)) (by decide)) (xfr g3) (xlo xsw0 (by decide) g4) (xKr hq (fun x6 h5 hq e7 => ?_) (fun _ _ q _ => q))
  replace hq := hq e7
  refine x_aload_n 0 dX5_truth_8 rfl ?_
  have t8 : tg h5 x0 = 6 := e7.tg g2 (by decide)
  refine x_get (v := rv (fR h5 x0 1284)) fdX5_29 dX5_truth_9 t8 rfl ?_
  refine x_acmp_eq (tgt := 26) dX5_truth_12 (by decide) (fun c9 => ?_) (fun c9 => ?_)
  · replace hq := hq.1 c9
    exact x_vret rfl dX5_truth_26 hq
  · replace hq := hq.2 c9
    refine x_aload_n 0 dX5_truth_15 rfl ?_
    refine x_bipush (v := 7) dX5_truth_16 (by decide) ?_
    refine x_aload_n 1 dX5_truth_18 rfl ?_
    have t10 : tg h5 x1 = 16 := e7.tg g1 (by decide)
    obtain ⟨g11, g12, hq⟩ := hq
    refine x_callV (Yc := YX15_place) (as := []) (st := [.int 7, rv x0]) q2013 mvX15_place t10 rfl dX5_truth_19 (xle (xal1 (rv_cat _) xal0) (by decide)) (xfr g11) (xlo (xsw1 rfl (xsw1 (rv_cat _) xsw0)) (by decide) g12) (xKi hq (fun x14 h13 hq e15 => ?_) (fun _ _ q _ => q))
    replace hq := hq e15
    have t16 : tg h13 x0 = 6 := e15.tg t8 (by decide)
    obtain ⟨g17, g18, hq⟩ := hq
    refine x_callV (Yc := YX5_fault) (as := [.int 7, .int x14]) (st := []) q2087 mvX5_fault t16 rfl dX5_truth_22 (xle (xal1 (rv_cat _) (xal1 rfl (xal1 rfl xal0))) (by decide)) (xfr g17) (xlo xsw0 (by decide) g18) (xKr hq (fun x20 h19 hq e21 => ?_) (fun _ _ q _ => q))
    replace hq := hq e21
    obtain ⟨r22, g23, hq⟩ := hq
    rw [g23]
    exact x_athrow dX5_truth_25 hq
theorem rX5_truth {G : xG} {fr lo : Nat} {x0 : Nat} {x1 : Nat} {h : xH} {Q : Outcome → xH → Prop} (hq : bX5_truth G fr lo x0 x1 h Q) : xR G YX5_truth fr lo [rv x0, rv x1] h Q := by
  show xP _ _ _ _ _ (lv_args 0 _) _ _ _
  rw [show lv_args 0 [rv x0, rv x1] = [(0, rv x0), (1, rv x1)] from (xla1 (rv_cat _) (xla1 (rv_cat _) xla0))]
  exact uX5_truth hq
set_option maxRecDepth 100000 in
theorem dX5_expression_0 : decode cX5_expression 0 = .ok (.aload_n 1, 1) := by decide +kernel
set_option maxRecDepth 100000 in
theorem dX5_expression_1 : decode cX5_expression 1 = .ok (.getfield 264, 3) := by decide +kernel
set_option maxRecDepth 100000 in
theorem dX5_expression_4 : decode cX5_expression 4 = .ok (.tableswitch 255 50 67 #[88, 112, 143, 152, 180, 225, 255, 231, 237, 255, 255, 255, 249, 243, 255, 255, 255, 171], 88) := by decide +kernel
set_option maxRecDepth 100000 in
theorem dX5_expression_92 : decode cX5_expression 92 = .ok (.aload_n 0, 1) := by decide +kernel
set_option maxRecDepth 100000 in
theorem dX5_expression_93 : decode cX5_expression 93 = .ok (.getfield 62, 3) := by decide +kernel
set_option maxRecDepth 100000 in
theorem dX5_expression_96 : decode cX5_expression 96 = .ok (.iconst 0, 1) := by decide +kernel
set_option maxRecDepth 100000 in
theorem dX5_expression_97 : decode cX5_expression 97 = .ok (.aload_n 1, 1) := by decide +kernel
set_option maxRecDepth 100000 in
theorem dX5_expression_98 : decode cX5_expression 98 = .ok (.getfield 202, 3) := by decide +kernel
set_option maxRecDepth 100000 in
theorem dX5_expression_101 : decode cX5_expression 101 = .ok (.getfield 219, 3) := by decide +kernel
set_option maxRecDepth 100000 in
theorem dX5_expression_104 : decode cX5_expression 104 = .ok (.iconst 0, 1) := by decide +kernel
set_option maxRecDepth 100000 in
theorem dX5_expression_105 : decode cX5_expression 105 = .ok (.iconst 0, 1) := by decide +kernel
set_option maxRecDepth 100000 in
theorem dX5_expression_106 : decode cX5_expression 106 = .ok (.iconst 0, 1) := by decide +kernel
set_option maxRecDepth 100000 in
theorem dX5_expression_107 : decode cX5_expression 107 = .ok (.invokevirtual 506, 3) := by decide +kernel
set_option maxRecDepth 100000 in
theorem dX5_expression_110 : decode cX5_expression 110 = .ok (.pop, 1) := by decide +kernel
set_option maxRecDepth 100000 in
theorem dX5_expression_111 : decode cX5_expression 111 = .ok (.aload_n 0, 1) := by decide +kernel
set_option maxRecDepth 100000 in
theorem dX5_expression_112 : decode cX5_expression 112 = .ok (.getfield 20, 3) := by decide +kernel
set_option maxRecDepth 100000 in
theorem dX5_expression_115 : decode cX5_expression 115 = .ok (.areturn, 1) := by decide +kernel
set_option maxRecDepth 100000 in
theorem dX5_expression_116 : decode cX5_expression 116 = .ok (.aload_n 0, 1) := by decide +kernel
set_option maxRecDepth 100000 in
theorem dX5_expression_117 : decode cX5_expression 117 = .ok (.getfield 62, 3) := by decide +kernel
set_option maxRecDepth 100000 in
theorem dX5_expression_120 : decode cX5_expression 120 = .ok (.iconst 1, 1) := by decide +kernel
set_option maxRecDepth 100000 in
theorem dX5_expression_121 : decode cX5_expression 121 = .ok (.aload_n 0, 1) := by decide +kernel
set_option maxRecDepth 100000 in
theorem dX5_expression_122 : decode cX5_expression 122 = .ok (.getfield 62, 3) := by decide +kernel
set_option maxRecDepth 100000 in
theorem dX5_expression_125 : decode cX5_expression 125 = .ok (.aload_n 1, 1) := by decide +kernel
set_option maxRecDepth 100000 in
theorem dX5_expression_126 : decode cX5_expression 126 = .ok (.getfield 202, 3) := by decide +kernel
set_option maxRecDepth 100000 in
theorem dX5_expression_129 : decode cX5_expression 129 = .ok (.getfield 228, 3) := by decide +kernel
set_option maxRecDepth 100000 in
theorem dX5_expression_132 : decode cX5_expression 132 = .ok (.invokevirtual 796, 3) := by decide +kernel
set_option maxRecDepth 100000 in
theorem dX5_expression_135 : decode cX5_expression 135 = .ok (.iconst 0, 1) := by decide +kernel
set_option maxRecDepth 100000 in
theorem dX5_expression_136 : decode cX5_expression 136 = .ok (.iconst 0, 1) := by decide +kernel
set_option maxRecDepth 100000 in
theorem dX5_expression_137 : decode cX5_expression 137 = .ok (.iconst 0, 1) := by decide +kernel
set_option maxRecDepth 100000 in
theorem dX5_expression_138 : decode cX5_expression 138 = .ok (.invokevirtual 506, 3) := by decide +kernel
set_option maxRecDepth 100000 in
theorem dX5_expression_141 : decode cX5_expression 141 = .ok (.pop, 1) := by decide +kernel
set_option maxRecDepth 100000 in
theorem dX5_expression_142 : decode cX5_expression 142 = .ok (.aload_n 0, 1) := by decide +kernel
set_option maxRecDepth 100000 in
theorem dX5_expression_143 : decode cX5_expression 143 = .ok (.getfield 26, 3) := by decide +kernel
set_option maxRecDepth 100000 in
theorem dX5_expression_146 : decode cX5_expression 146 = .ok (.areturn, 1) := by decide +kernel
set_option maxRecDepth 100000 in
theorem dX5_expression_147 : decode cX5_expression 147 = .ok (.aload_n 0, 1) := by decide +kernel
set_option maxRecDepth 100000 in
theorem dX5_expression_148 : decode cX5_expression 148 = .ok (.aload_n 1, 1) := by decide +kernel
set_option maxRecDepth 100000 in
theorem dX5_expression_149 : decode cX5_expression 149 = .ok (.invokevirtual 173, 3) := by decide +kernel
set_option maxRecDepth 100000 in
theorem dX5_expression_152 : decode cX5_expression 152 = .ok (.invokevirtual 799, 3) := by decide +kernel
set_option maxRecDepth 100000 in
theorem dX5_expression_155 : decode cX5_expression 155 = .ok (.areturn, 1) := by decide +kernel
set_option maxRecDepth 100000 in
theorem dX5_expression_156 : decode cX5_expression 156 = .ok (.aload_n 0, 1) := by decide +kernel
set_option maxRecDepth 100000 in
theorem dX5_expression_157 : decode cX5_expression 157 = .ok (.getfield 62, 3) := by decide +kernel
set_option maxRecDepth 100000 in
theorem dX5_expression_160 : decode cX5_expression 160 = .ok (.bipush 19, 2) := by decide +kernel
set_option maxRecDepth 100000 in
theorem dX5_expression_162 : decode cX5_expression 162 = .ok (.iconst 0, 1) := by decide +kernel
set_option maxRecDepth 100000 in
theorem dX5_expression_163 : decode cX5_expression 163 = .ok (.iconst 0, 1) := by decide +kernel
set_option maxRecDepth 100000 in
theorem dX5_expression_164 : decode cX5_expression 164 = .ok (.iconst 0, 1) := by decide +kernel
set_option maxRecDepth 100000 in
theorem dX5_expression_165 : decode cX5_expression 165 = .ok (.iconst 0, 1) := by decide +kernel
set_option maxRecDepth 100000 in
theorem dX5_expression_166 : decode cX5_expression 166 = .ok (.invokevirtual 506, 3) := by decide +kernel
set_option maxRecDepth 100000 in
theorem dX5_expression_169 : decode cX5_expression 169 = .ok (.pop, 1) := by decide +kernel
set_option maxRecDepth 100000 in
theorem dX5_expression_170 : decode cX5_expression 170 = .ok (.aload_n 0, 1) := by decide +kernel
set_option maxRecDepth 100000 in
theorem dX5_expression_171 : decode cX5_expression 171 = .ok (.getfield 42, 3) := by decide +kernel
set_option maxRecDepth 100000 in
theorem dX5_expression_174 : decode cX5_expression 174 = .ok (.areturn, 1) := by decide +kernel
set_option maxRecDepth 100000 in
theorem dX5_expression_175 : decode cX5_expression 175 = .ok (.aload_n 0, 1) := by decide +kernel
set_option maxRecDepth 100000 in
theorem dX5_expression_176 : decode cX5_expression 176 = .ok (.aload_n 1, 1) := by decide +kernel
set_option maxRecDepth 100000 in
theorem dX5_expression_177 : decode cX5_expression 177 = .ok (.getfield 251, 3) := by decide +kernel
set_option maxRecDepth 100000 in
theorem dX5_expression_180 : decode cX5_expression 180 = .ok (.invokevirtual 654, 3) := by decide +kernel
set_option maxRecDepth 100000 in
theorem dX5_expression_183 : decode cX5_expression 183 = .ok (.areturn, 1) := by decide +kernel
set_option maxRecDepth 100000 in
theorem dX5_expression_184 : decode cX5_expression 184 = .ok (.aload_n 0, 1) := by decide +kernel
set_option maxRecDepth 100000 in
theorem dX5_expression_185 : decode cX5_expression 185 = .ok (.aload_n 1, 1) := by decide +kernel
set_option maxRecDepth 100000 in
theorem dX5_expression_186 : decode cX5_expression 186 = .ok (.getfield 251, 3) := by decide +kernel
set_option maxRecDepth 100000 in
theorem dX5_expression_189 : decode cX5_expression 189 = .ok (.invokevirtual 654, 3) := by decide +kernel
set_option maxRecDepth 100000 in
theorem dX5_expression_192 : decode cX5_expression 192 = .ok (.aload_n 0, 1) := by decide +kernel
set_option maxRecDepth 100000 in
theorem dX5_expression_193 : decode cX5_expression 193 = .ok (.getfield 29, 3) := by decide +kernel
set_option maxRecDepth 100000 in
theorem dX5_expression_196 : decode cX5_expression 196 = .ok (.if_acmp .eq 14, 3) := by decide +kernel
set_option maxRecDepth 100000 in
theorem dX5_expression_199 : decode cX5_expression 199 = .ok (.aload_n 0, 1) := by decide +kernel
set_option maxRecDepth 100000 in
theorem dX5_expression_200 : decode cX5_expression 200 = .ok (.bipush 7, 2) := by decide +kernel
set_option maxRecDepth 100000 in
theorem dX5_expression_202 : decode cX5_expression 202 = .ok (.aload_n 1, 1) := by decide +kernel
set_option maxRecDepth 100000 in
theorem dX5_expression_203 : decode cX5_expression 203 = .ok (.invokevirtual 192, 3) := by decide +kernel
set_option maxRecDepth 100000 in
theorem dX5_expression_206 : decode cX5_expression 206 = .ok (.invokevirtual 163, 3) := by decide +kernel
set_option maxRecDepth 100000 in
theorem dX5_expression_209 : decode cX5_expression 209 = .ok (.athrow, 1) := by decide +kernel
set_option maxRecDepth 100000 in
theorem dX5_expression_210 : decode cX5_expression 210 = .ok (.aload_n 0, 1) := by decide +kernel
set_option maxRecDepth 100000 in
theorem dX5_expression_211 : decode cX5_expression 211 = .ok (.getfield 62, 3) := by decide +kernel
set_option maxRecDepth 100000 in
theorem dX5_expression_214 : decode cX5_expression 214 = .ok (.bipush 35, 2) := by decide +kernel
set_option maxRecDepth 100000 in
theorem dX5_expression_216 : decode cX5_expression 216 = .ok (.iconst 0, 1) := by decide +kernel
set_option maxRecDepth 100000 in
theorem dX5_expression_217 : decode cX5_expression 217 = .ok (.iconst 0, 1) := by decide +kernel
set_option maxRecDepth 100000 in
theorem dX5_expression_218 : decode cX5_expression 218 = .ok (.iconst 0, 1) := by decide +kernel
set_option maxRecDepth 100000 in
theorem dX5_expression_219 : decode cX5_expression 219 = .ok (.iconst 0, 1) := by decide +kernel
set_option maxRecDepth 100000 in
theorem dX5_expression_220 : decode cX5_expression 220 = .ok (.invokevirtual 506, 3) := by decide +kernel
set_option maxRecDepth 100000 in
theorem dX5_expression_223 : decode cX5_expression 223 = .ok (.pop, 1) := by decide +kernel
set_option maxRecDepth 100000 in
theorem dX5_expression_224 : decode cX5_expression 224 = .ok (.aload_n 0, 1) := by decide +kernel
set_option maxRecDepth 100000 in
theorem dX5_expression_225 : decode cX5_expression 225 = .ok (.getfield 29, 3) := by decide +kernel
set_option maxRecDepth 100000 in
theorem dX5_expression_228 : decode cX5_expression 228 = .ok (.areturn, 1) := by decide +kernel
set_option maxRecDepth 100000 in
theorem dX5_expression_229 : decode cX5_expression 229 = .ok (.aload_n 0, 1) := by decide +kernel
set_option maxRecDepth 100000 in
theorem dX5_expression_230 : decode cX5_expression 230 = .ok (.aload_n 1, 1) := by decide +kernel
set_option maxRecDepth 100000 in
theorem dX5_expression_231 : decode cX5_expression 231 = .ok (.invokevirtual 802, 3) := by decide +kernel
set_option maxRecDepth 100000 in
theorem dX5_expression_234 : decode cX5_expression 234 = .ok (.areturn, 1) := by decide +kernel
set_option maxRecDepth 100000 in
theorem dX5_expression_235 : decode cX5_expression 235 = .ok (.aload_n 0, 1) := by decide +kernel
set_option maxRecDepth 100000 in
theorem dX5_expression_236 : decode cX5_expression 236 = .ok (.aload_n 1, 1) := by decide +kernel
set_option maxRecDepth 100000 in
theorem dX5_expression_237 : decode cX5_expression 237 = .ok (.invokevirtual 805, 3) := by decide +kernel
set_option maxRecDepth 100000 in
theorem dX5_expression_240 : decode cX5_expression 240 = .ok (.areturn, 1) := by decide +kernel
set_option maxRecDepth 100000 in
theorem dX5_expression_241 : decode cX5_expression 241 = .ok (.aload_n 0, 1) := by decide +kernel
set_option maxRecDepth 100000 in
theorem dX5_expression_242 : decode cX5_expression 242 = .ok (.aload_n 1, 1) := by decide +kernel
set_option maxRecDepth 100000 in
theorem dX5_expression_243 : decode cX5_expression 243 = .ok (.invokevirtual 808, 3) := by decide +kernel
set_option maxRecDepth 100000 in
theorem dX5_expression_246 : decode cX5_expression 246 = .ok (.areturn, 1) := by decide +kernel
set_option maxRecDepth 100000 in
theorem dX5_expression_247 : decode cX5_expression 247 = .ok (.aload_n 0, 1) := by decide +kernel
set_option maxRecDepth 100000 in
theorem dX5_expression_248 : decode cX5_expression 248 = .ok (.aload_n 1, 1) := by decide +kernel
set_option maxRecDepth 100000 in
theorem dX5_expression_249 : decode cX5_expression 249 = .ok (.invokevirtual 811, 3) := by decide +kernel
set_option maxRecDepth 100000 in
theorem dX5_expression_252 : decode cX5_expression 252 = .ok (.areturn, 1) := by decide +kernel
set_option maxRecDepth 100000 in
theorem dX5_expression_253 : decode cX5_expression 253 = .ok (.aload_n 0, 1) := by decide +kernel
set_option maxRecDepth 100000 in
theorem dX5_expression_254 : decode cX5_expression 254 = .ok (.aload_n 1, 1) := by decide +kernel
set_option maxRecDepth 100000 in
theorem dX5_expression_255 : decode cX5_expression 255 = .ok (.invokevirtual 814, 3) := by decide +kernel
set_option maxRecDepth 100000 in
theorem dX5_expression_258 : decode cX5_expression 258 = .ok (.areturn, 1) := by decide +kernel
set_option maxRecDepth 100000 in
theorem dX5_expression_259 : decode cX5_expression 259 = .ok (.aload_n 0, 1) := by decide +kernel
set_option maxRecDepth 100000 in
theorem dX5_expression_260 : decode cX5_expression 260 = .ok (.aload_n 1, 1) := by decide +kernel
set_option maxRecDepth 100000 in
theorem dX5_expression_261 : decode cX5_expression 261 = .ok (.invokevirtual 817, 3) := by decide +kernel
set_option maxRecDepth 100000 in
theorem dX5_expression_264 : decode cX5_expression 264 = .ok (.areturn, 1) := by decide +kernel
set_option maxRecDepth 100000 in
def bX5_expression (G : xG) (fr lo : Nat) (x0 : Nat) (x1 : Nat) (h : xH) (Q : Outcome → xH → Prop) : Prop := tg h x1 = 16 ∧ (((fI h x1 3840) = 50 → tg h x0 = 6 ∧ tg h (fR h x1 3841) = 15 ∧ tg h (fR h x0 1281) = 3 ∧ 1 ≤ fr ∧ 17 ≤ lo ∧ xRi G YX2_put (fr - 1) (lo - 17) [rv (fR h x0 1281), .int 0, .int (fI h (fR h x1 3841) 3587), .int 0, .int 0, .int 0] h (fun x9 h8 => xext h h8 → Q (.returned (some (rv (fR h8 x0 1282)))) h8) (fun r h2 => Q (.threw r) h2)) ∧ ((fI h x1 3840) = 51 → tg h x0 = 6 ∧ tg h (fR h x1 3841) = 15 ∧ tg h (fR h x0 1281) = 3 ∧ 1 ≤ fr ∧ 18 ≤ lo ∧ xRi G YX2_real (fr - 1) (lo - 18) [rv (fR h x0 1281), .double (fD h (fR h x1 3841) 3588)] h (fun x19 h18 => xext h h18 → 1 ≤ fr ∧ 17 ≤ lo ∧ xRi G YX2_put (fr - 1) (lo - 17) [rv (fR h x0 1281), .int 1, .int x19, .int 0, .int 0, .int 0] h18 (fun x25 h24 => xext h18 h24 → Q (.returned (some (rv (fR h24 x0 1283)))) h24) (fun r h2 => Q (.threw r) h2)) (fun r h2 => Q (.threw r) h2)) ∧ ((fI h x1 3840) = 52 → 1 ≤ fr ∧ 13 ≤ lo ∧ xRr G YX15_text (fr - 1) (lo - 13) [rv x1] h (fun x33 h32 => xext h h32 → tg h32 x0 = 6 ∧ 1 ≤ fr ∧ 13 ≤ lo ∧ xRr G YX5_string (fr - 1) (lo - 13) [rv x0, rv x33] h32 (fun x39 h38 => xext h32 h38 → Q (.returned (some (rv x39))) h38) (fun r h2 => Q (.threw r) h2)) (fun r h2 => Q (.threw r) h2)) ∧ ((fI h x1 3840) = 53 → tg h x0 = 6 ∧ tg h (fR h x0 1281) = 3 ∧ 1 ≤ fr ∧ 17 ≤ lo ∧ xRi G YX2_put (fr - 1) (lo - 17) [rv (fR h x0 1281), .int 19, .int 0, .int 0, .int 0, .int 0] h (fun x47 h46 => xext h h46 → Q (.returned (some (rv (fR h46 x0 1287)))) h46) (fun r h2 => Q (.threw r) h2)) ∧ ((fI h x1 3840) = 54 → tg h x0 = 6 ∧ 1 ≤ fr ∧ 13 ≤ lo ∧ xRr G YX5_expression (fr - 1) (lo - 13) [rv x0, rv (fR h x1 3842)] h (fun x55 h54 => xext h h54 → ((x55 = (fR h54 x0 1284) → tg h54 (fR h54 x0 1281) = 3 ∧ 1 ≤ fr ∧ 17 ≤ lo ∧ xRi G YX2_put (fr - 1) (lo - 17) [rv (fR h54 x0 1281), .int 35, .int 0, .int 0, .int 0, .int 0] h54 (fun x63 h62 => xext h54 h62 → Q (.returned (some (rv (fR h62 x0 1284)))) h62) (fun r h2 => Q (.threw r) h2)) ∧ (¬ x55 = (fR h54 x0 1284) → 1 ≤ fr ∧ 14 ≤ lo ∧ xRi G YX15_place (fr - 1) (lo - 14) [rv x1] h54 (fun x70 h69 => xext h54 h69 → 1 ≤ fr ∧ 14 ≤ lo ∧ xRr G YX5_fault (fr - 1) (lo - 14) [rv x0, .int 7, .int x70] h69 (fun x76 h75 => xext h69 h75 → (∃ r78, x76 = r78 + 1 ∧ Q (.threw r78) h75)) (fun r h2 => Q (.threw r) h2)) (fun r h2 => Q (.threw r) h2)))) (fun r h2 => Q (.threw r) h2)) ∧ ((fI h x1 3840) = 55 → tg h x0 = 6 ∧ 1 ≤ fr ∧ 16 ≤ lo ∧ xRr G YX5_made (fr - 1) (lo - 16) [rv x0, rv x1] h (fun x85 h84 => xext h h84 → Q (.returned (some (rv x85))) h84) (fun r h2 => Q (.threw r) h2)) ∧ ((fI h x1 3840) = 56 → tg h x0 = 6 ∧ 1 ≤ fr ∧ 19 ≤ lo ∧ xRr G YX5_compared (fr - 1) (lo - 19) [rv x0, rv x1] h (fun x92 h91 => xext h h91 → Q (.returned (some (rv x92))) h91) (fun r h2 => Q (.threw r) h2)) ∧ ((fI h x1 3840) = 57 → tg h x0 = 6 ∧ 1 ≤ fr ∧ 14 ≤ lo ∧ xRr G YX5_applied (fr - 1) (lo - 14) [rv x0, rv x1] h (fun x99 h98 => xext h h98 → Q (.returned (some (rv x99))) h98) (fun r h2 => Q (.threw r) h2)) ∧ ((fI h x1 3840) = 58 → tg h x0 = 6 ∧ 1 ≤ fr ∧ 15 ≤ lo ∧ xRr G YX5_named (fr - 1) (lo - 15) [rv x0, rv x1] h (fun x106 h105 => xext h h105 → Q (.returned (some (rv x106))) h105) (fun r h2 => Q (.threw r) h2)) ∧ ((fI h x1 3840) = 59 → tg h x0 = 6 ∧ 1 ≤ fr ∧ 19 ≤ lo ∧ xRr G YX5_compared (fr - 1) (lo - 19) [rv x0, rv x1] h (fun x113 h112 => xext h h112 → Q (.returned (some (rv x113))) h112) (fun r h2 => Q (.threw r) h2)) ∧ ((fI h x1 3840) = 60 → tg h x0 = 6 ∧ 1 ≤ fr ∧ 19 ≤ lo ∧ xRr G YX5_compared (fr - 1) (lo - 19) [rv x0, rv x1] h (fun x120 h119 => xext h h119 → Q (.returned (some (rv x120))) h119) (fun r h2 => Q (.threw r) h2)) ∧ ((fI h x1 3840) = 61 → tg h x0 = 6 ∧ 1 ≤ fr ∧ 19 ≤ lo ∧ xRr G YX5_compared (fr - 1) (lo - 19) [rv x0, rv x1] h (fun x127 h126 => xext h h126 → Q (.returned (some (rv x127))) h126) (fun r h2 => Q (.threw r) h2)) ∧ ((fI h x1 3840) = 62 → tg h x0 = 6 ∧ 1 ≤ fr ∧ 16 ≤ lo ∧ xRr G YX5_sum (fr - 1) (lo - 16) [rv x0, rv x1] h (fun x134 h133 => xext h h133 → Q (.returned (some (rv x134))) h133) (fun r h2 => Q (.threw r) h2)) ∧ ((fI h x1 3840) = 63 → tg h x0 = 6 ∧ 1 ≤ fr ∧ 14 ≤ lo ∧ xRr G YX5_signed (fr - 1) (lo - 14) [rv x0, rv x1] h (fun x141 h140 => xext h h140 → Q (.returned (some (rv x141))) h140) (fun r h2 => Q (.threw r) h2)) ∧ ((fI h x1 3840) = 64 → tg h x0 = 6 ∧ 1 ≤ fr ∧ 19 ≤ lo ∧ xRr G YX5_compared (fr - 1) (lo - 19) [rv x0, rv x1] h (fun x148 h147 => xext h h147 → Q (.returned (some (rv x148))) h147) (fun r h2 => Q (.threw r) h2)) ∧ ((fI h x1 3840) = 65 → tg h x0 = 6 ∧ 1 ≤ fr ∧ 19 ≤ lo ∧ xRr G YX5_compared (fr - 1) (lo - 19) [rv x0, rv x1] h (fun x155 h154 => xext h h154 → Q (.returned (some (rv x155))) h154) (fun r h2 => Q (.threw r) h2)) ∧ ((fI h x1 3840) = 66 → tg h x0 = 6 ∧ 1 ≤ fr ∧ 19 ≤ lo ∧ xRr G YX5_compared (fr - 1) (lo - 19) [rv x0, rv x1] h (fun x162 h161 => xext h h161 → Q (.returned (some (rv x162))) h161) (fun r h2 => Q (.threw r) h2)) ∧ ((fI h x1 3840) = 67 → tg h x0 = 6 ∧ 1 ≤ fr ∧ 13 ≤ lo ∧ xRr G YX5_expression (fr - 1) (lo - 13) [rv x0, rv (fR h x1 3842)] h (fun x169 h168 => xext h h168 → Q (.returned (some (rv x169))) h168) (fun r h2 => Q (.threw r) h2)) ∧ (¬ (fI h x1 3840) = 50 → ¬ (fI h x1 3840) = 51 → ¬ (fI h x1 3840) = 52 → ¬ (fI h x1 3840) = 53 → ¬ (fI h x1 3840) = 54 → ¬ (fI h x1 3840) = 55 → ¬ (fI h x1 3840) = 56 → ¬ (fI h x1 3840) = 57 → ¬ (fI h x1 3840) = 58 → ¬ (fI h x1 3840) = 59 → ¬ (fI h x1 3840) = 60 → ¬ (fI h x1 3840) = 61 → ¬ (fI h x1 3840) = 62 → ¬ (fI h x1 3840) = 63 → ¬ (fI h x1 3840) = 64 → ¬ (fI h x1 3840) = 65 → ¬ (fI h x1 3840) = 66 → ¬ (fI h x1 3840) = 67 → tg h x0 = 6 ∧ 1 ≤ fr ∧ 19 ≤ lo ∧ xRr G YX5_compared (fr - 1) (lo - 19) [rv x0, rv x1] h (fun x175 h174 => xext h h174 → Q (.returned (some (rv x175))) h174) (fun r h2 => Q (.threw r) h2)))
set_option maxRecDepth 100000 in
theorem uX5_expression {G : xG} {fr lo : Nat} {x0 : Nat} {x1 : Nat} {h : xH} {Q : Outcome → xH → Prop} (hq : bX5_expression G fr lo x0 x1 h Q) : xP G YX5_expression fr lo 0 [(0, rv x0), (1, rv x1)] [] h Q := by
  unfold bX5_expression at hq
  refine x_aload_n 1 dX5_expression_0 rfl ?_
  obtain ⟨g1, hq⟩ := hq
  refine x_getN (v := .int (fI h x1 3840)) gfX5_264 dX5_expression_1 g1 rfl ?_
  by_cases c2 : (fI h x1 3840) = 50
  · replace hq := hq.1 c2
    refine x_tin (tgt := 92) (off := 88) 50 c2 dX5_expression_4 (by decide) (by decide) (by decide) (by decide) ?_
    refine x_aload_n 0 dX5_expression_92 rfl ?_
    obtain ⟨g3, hq⟩ := hq
    refine x_get (v := rv (fR h x0 1281)) fdX5_62 dX5_expression_93 g3 rfl ?_
    refine x_iconst (v := 0) dX5_expression_96 (by decide) ?_
    refine x_aload_n 1 dX5_expression_97 rfl ?_
    refine x_getN (v := rv (fR h x1 3841)) gfX5_202 dX5_expression_98 g1 rfl ?_
    obtain ⟨g4, hq⟩ := hq
    refine x_getN (v := .int (fI h (fR h x1 3841) 3587)) gfX5_219 dX5_expression_101 g4 rfl ?_
    refine x_iconst (v := 0) dX5_expression_104 (by decide) ?_
    refine x_iconst (v := 0) dX5_expression_105 (by decide) ?_
    refine x_iconst (v := 0) dX5_expression_106 (by decide) ?_
    obtain ⟨g5, hq⟩ := hq
    obtain ⟨g6, g7, hq⟩ := hq
    refine x_callV (Yc := YX2_put) (as := [.int 0, .int (fI h (fR h x1 3841) 3587), .int 0, .int 0, .int 0]) (st := []) q2494 mvX2_put g5 rfl dX5_expression_107 (xle (xal1 (rv_cat _) (xal1 rfl (xal1 rfl (xal1 rfl (xal1 rfl (xal1 rfl xal0)))))) (by decide)) (xfr g6) (xlo xsw0 (by decide) g7) (xKi hq (fun x9 h8 hq e10 => ?_) (fun _ _ q _ => q))
    replace hq := hq e10
    refine x_pop dX5_expression_110 rfl ?_
    refine x_aload_n 0 dX5_expression_111 rfl ?_
    have t11 : tg h8 x0 = 6 := e10.tg g3 (by decide)
    refine x_get (v := rv (fR h8 x0 1282)) fdX5_20 dX5_expression_112 t11 rfl ?_
    exact x_aret rfl xty_O dX5_expression_115 hq
  replace hq := hq.2
  by_cases c12 : (fI h x1 3840) = 51
  · replace hq := hq.1 c12
    refine x_tin (tgt := 116) (off := 112) 51 c12 dX5_expression_4 (by decide) (by decide) (by decide) (by decide) ?_
    refine x_aload_n 0 dX5_expression_116 rfl ?_
    obtain ⟨g13, hq⟩ := hq
    refine x_get (v := rv (fR h x0 1281)) fdX5_62 dX5_expression_117 g13 rfl ?_
    refine x_iconst (v := 1) dX5_expression_120 (by decide) ?_
    refine x_aload_n 0 dX5_expression_121 rfl ?_
    refine x_get (v := rv (fR h x0 1281)) fdX5_62 dX5_expression_122 g13 rfl ?_
    refine x_aload_n 1 dX5_expression_125 rfl ?_
    refine x_getN (v := rv (fR h x1 3841)) gfX5_202 dX5_expression_126 g1 rfl ?_
    obtain ⟨g14, hq⟩ := hq
    refine x_getN (v := .double (fD h (fR h x1 3841) 3588)) gfX5_228 dX5_expression_129 g14 rfl ?_
    obtain ⟨g15, hq⟩ := hq
    obtain ⟨g16, g17, hq⟩ := hq
    refine x_callV (Yc := YX2_real) (as := [.double (fD h (fR h x1 3841) 3588)]) (st := [.int 1, rv (fR h x0 1281)]) q2526 mvX2_real g15 rfl dX5_expression_132 (xle (xal1 (rv_cat _) (xal2 rfl xal0)) (by decide)) (xfr g16) (xlo (xsw1 rfl (xsw1 (rv_cat _) xsw0)) (by decide) g17) (xKi hq (fun x19 h18 hq e20 => ?_) (fun _ _ q _ => q))
    replace hq := hq e20
    refine x_iconst (v := 0) dX5_expression_135 (by decide) ?_
    refine x_iconst (v := 0) dX5_expression_136 (by decide) ?_
    refine x_iconst (v := 0) dX5_expression_137 (by decide) ?_
    have t21 : tg h18 (fR h x0 1281) = 3 := e20.tg g15 (by decide)
    obtain ⟨g22, g23, hq⟩ := hq
    refine x_callV (Yc := YX2_put) (as := [.int 1, .int x19, .int 0, .int 0, .int 0]) (st := []) q2494 mvX2_put t21 rfl dX5_expression_138 (xle (xal1 (rv_cat _) (xal1 rfl (xal1 rfl (xal1 rfl (xal1 rfl (xal1 rfl xal0)))))) (by decide)) (xfr g22) (xlo xsw0 (by decide) g23) (xKi hq (fun x25 h24 hq e26 => ?_) (fun _ _ q _ => q))
    replace hq := hq e26
    refine x_pop dX5_expression_141 rfl ?_
    refine x_aload_n 0 dX5_expression_142 rfl ?_
    have t27 : tg h18 x0 = 6 := e20.tg g13 (by decide)
    have t28 : tg h24 x0 = 6 := e26.tg t27 (by decide)
    refine x_get (v := rv (fR h24 x0 1283)) fdX5_26 dX5_expression_143 t28 rfl ?_
    exact x_aret rfl xty_O dX5_expression_146 hq
  replace hq := hq.2
  by_cases c29 : (fI h x1 3840) = 52
  · replace hq := hq.1 c29
    refine x_tin (tgt := 147) (off := 143) 52 c29 dX5_expression_4 (by decide) (by decide) (by decide) (by decide) ?_
    refine x_aload_n 0 dX5_expression_147 rfl ?_
    refine x_aload_n 1 dX5_expression_148 rfl ?_
    obtain ⟨g30, g31, hq⟩ := hq
    refine x_callV (Yc := YX15_text) (as := []) (st := [rv x0]) q2009 mvX15_text g1 rfl dX5_expression_149 (xle (xal1 (rv_cat _) xal0) (by decide)) (xfr g30) (xlo (xsw1 (rv_cat _) xsw0) (by decide) g31) (xKr hq (fun x33 h32 hq e34 => ?_) (fun _ _ q _ => q))
    replace hq := hq e34
    obtain ⟨g35, hq⟩ := hq
    obtain ⟨g36, g37, hq⟩ := hq
    refine x_callV (Yc := YX5_string) (as := [rv x33]) (st := []) q2530 mvX5_string g35 rfl dX5_expression_152 (xle (xal1 (rv_cat _) (xal1 (rv_cat _) xal0)) (by decide)) (xfr g36) (xlo xsw0 (by decide) g37) (xKr hq (fun x39 h38 hq e40 => ?_) (fun _ _ q _ => q))
    replace hq := hq e40
    exact x_aret rfl xty_O dX5_expression_155 hq
  replace hq := hq.2
  by_cases c41 : (fI h x1 3840) = 53
  · replace hq := hq.1 c41
    refine x_tin (tgt := 156) (off := 152) 53 c41 dX5_expression_4 (by decide) (by decide) (by decide) (by decide) ?_
    refine x_aload_n 0 dX5_expression_156 rfl ?_
    obtain ⟨g42, hq⟩ := hq
    refine x_get (v := rv (fR h x0 1281)) fdX5_62 dX5_expression_157 g42 rfl ?_
    refine x_bipush (v := 19) dX5_expression_160 (by decide) ?_
    refine x_iconst (v := 0) dX5_expression_162 (by decide) ?_
    refine x_iconst (v := 0) dX5_expression_163 (by decide) ?_
    refine x_iconst (v := 0) dX5_expression_164 (by decide) ?_
    refine x_iconst (v := 0) dX5_expression_165 (by decide) ?_
    obtain ⟨g43, hq⟩ := hq
    obtain ⟨g44, g45, hq⟩ := hq
    refine x_callV (Yc := YX2_put) (as := [.int 19, .int 0, .int 0, .int 0, .int 0]) (st := []) q2494 mvX2_put g43 rfl dX5_expression_166 (xle (xal1 (rv_cat _) (xal1 rfl (xal1 rfl (xal1 rfl (xal1 rfl (xal1 rfl xal0)))))) (by decide)) (xfr g44) (xlo xsw0 (by decide) g45) (xKi hq (fun x47 h46 hq e48 => ?_) (fun _ _ q _ => q))
    replace hq := hq e48
    refine x_pop dX5_expression_169 rfl ?_
    refine x_aload_n 0 dX5_expression_170 rfl ?_
    have t49 : tg h46 x0 = 6 := e48.tg g42 (by decide)
    refine x_get (v := rv (fR h46 x0 1287)) fdX5_42 dX5_expression_171 t49 rfl ?_
    exact x_aret rfl xty_O dX5_expression_174 hq
  replace hq := hq.2
  by_cases c50 : (fI h x1 3840) = 54
  · replace hq := hq.1 c50
    refine x_tin (tgt := 184) (off := 180) 54 c50 dX5_expression_4 (by decide) (by decide) (by decide) (by decide) ?_
    refine x_aload_n 0 dX5_expression_184 rfl ?_
    refine x_aload_n 1 dX5_expression_185 rfl ?_
    refine x_getN (v := rv (fR h x1 3842)) gfX5_251 dX5_expression_186 g1 rfl ?_
    obtain ⟨g51, hq⟩ := hq
    obtain ⟨g52, g53, hq⟩ := hq
    refine x_callV (Yc := YX5_expression) (as := [rv (fR h x1 3842)]) (st := []) q2522 mvX5_expression g51 rfl dX5_expression_189 (xle (xal1 (rv_cat _) (xal1 (rv_cat _) xal0)) (by decide)) (xfr g52) (xlo xsw0 (by decide) g53) (xKr hq (fun x55 h54 hq e56 => ?_) (fun _ _ q _ => q))
    replace hq := hq e56
    refine x_aload_n 0 dX5_expression_192 rfl ?_
    have t57 : tg h54 x0 = 6 := e56.tg g51 (by decide)
    refine x_get (v := rv (fR h54 x0 1284)) fdX5_29 dX5_expression_193 t57 rfl ?_
    refine x_acmp_eq (tgt := 210) dX5_expression_196 (by decide) (fun c58 => ?_) (fun c58 => ?_)
    · replace hq := hq.1 c58
      refine x_aload_n 0 dX5_expression_210 rfl ?_
      refine x_get (v := rv (fR h54 x0 1281)) fdX5_62 dX5_expression_211 t57 rfl ?_
      refine x_bipush (v := 35) dX5_expression_214 (by decide) ?_
      refine x_iconst (v := 0) dX5_expression_216 (by decide) ?_
      refine x_iconst (v := 0) dX5_expression_217 (by decide) ?_
      refine x_iconst (v := 0) dX5_expression_218 (by decide) ?_
      refine x_iconst (v := 0) dX5_expression_219 (by decide) ?_
      obtain ⟨g59, hq⟩ := hq
      obtain ⟨g60, g61, hq⟩ := hq
      refine x_callV (Yc := YX2_put) (as := [.int 35, .int 0, .int 0, .int 0, .int 0]) (st := []) q2494 mvX2_put g59 rfl dX5_expression_220 (xle (xal1 (rv_cat _) (xal1 rfl (xal1 rfl (xal1 rfl (xal1 rfl (xal1 rfl xal0)))))) (by decide)) (xfr g60) (xlo xsw0 (by decide) g61) (xKi hq (fun x63 h62 hq e64 => ?_) (fun _ _ q _ => q))
      replace hq := hq e64
      refine x_pop dX5_expression_223 rfl ?_
      refine x_aload_n 0 dX5_expression_224 rfl ?_
      have t65 : tg h62 x0 = 6 := e64.tg t57 (by decide)
      refine x_get (v := rv (fR h62 x0 1284)) fdX5_29 dX5_expression_225 t65 rfl ?_
      exact x_aret rfl xty_O dX5_expression_228 hq
    · replace hq := hq.2 c58
      refine x_aload_n 0 dX5_expression_199 rfl ?_
      refine x_bipush (v := 7) dX5_expression_200 (by decide) ?_
      refine x_aload_n 1 dX5_expression_202 rfl ?_
      have t66 : tg h54 x1 = 16 := e56.tg g1 (by decide)
      obtain ⟨g67, g68, hq⟩ := hq
      refine x_callV (Yc := YX15_place) (as := []) (st := [.int 7, rv x0]) q2013 mvX15_place t66 rfl dX5_expression_203 (xle (xal1 (rv_cat _) xal0) (by decide)) (xfr g67) (xlo (xsw1 rfl (xsw1 (rv_cat _) xsw0)) (by decide) g68) (xKi hq (fun x70 h69 hq e71 => ?_) (fun _ _ q _ => q))
      replace hq := hq e71
      have t72 : tg h69 x0 = 6 := e71.tg t57 (by decide)
      obtain ⟨g73, g74, hq⟩ := hq
      refine x_callV (Yc := YX5_fault) (as := [.int 7, .int x70]) (st := []) q2087 mvX5_fault t72 rfl dX5_expression_206 (xle (xal1 (rv_cat _) (xal1 rfl (xal1 rfl xal0))) (by decide)) (xfr g73) (xlo xsw0 (by decide) g74) (xKr hq (fun x76 h75 hq e77 => ?_) (fun _ _ q _ => q))
      replace hq := hq e77
      obtain ⟨r78, g79, hq⟩ := hq
      rw [g79]
      exact x_athrow dX5_expression_209 hq
  replace hq := hq.2
  by_cases c80 : (fI h x1 3840) = 55
  · replace hq := hq.1 c80
    refine x_tin (tgt := 229) (off := 225) 55 c80 dX5_expression_4 (by decide) (by decide) (by decide) (by decide) ?_
    refine x_aload_n 0 dX5_expression_229 rfl ?_
    refine x_aload_n 1 dX5_expression_230 rfl ?_
    obtain ⟨g81, hq⟩ := hq
    obtain ⟨g82, g83, hq⟩ := hq
    refine x_callV (Yc := YX5_made) (as := [rv x1]) (st := []) q2534 mvX5_made g81 rfl dX5_expression_231 (xle (xal1 (rv_cat _) (xal1 (rv_cat _) xal0)) (by decide)) (xfr g82) (xlo xsw0 (by decide) g83) (xKr hq (fun x85 h84 hq e86 => ?_) (fun _ _ q _ => q))
    replace hq := hq e86
    exact x_aret rfl xty_O dX5_expression_234 hq
  replace hq := hq.2
  by_cases c87 : (fI h x1 3840) = 56
  · replace hq := hq.1 c87
    refine x_tin (tgt := 259) (off := 255) 56 c87 dX5_expression_4 (by decide) (by decide) (by decide) (by decide) ?_
    refine x_aload_n 0 dX5_expression_259 rfl ?_
    refine x_aload_n 1 dX5_expression_260 rfl ?_
    obtain ⟨g88, hq⟩ := hq
    obtain ⟨g89, g90, hq⟩ := hq
    refine x_callV (Yc := YX5_compared) (as := [rv x1]) (st := []) q2681 mvX5_compared g88 rfl dX5_expression_261 (xle (xal1 (rv_cat _) (xal1 (rv_cat _) xal0)) (by decide)) (xfr g89) (xlo xsw0 (by decide) g90) (xKr hq (fun x92 h91 hq e93 => ?_) (fun _ _ q _ => q))
    replace hq := hq e93
    exact x_aret rfl xty_O dX5_expression_264 hq
  replace hq := hq.2
  by_cases c94 : (fI h x1 3840) = 57
  · replace hq := hq.1 c94
    refine x_tin (tgt := 235) (off := 231) 57 c94 dX5_expression_4 (by decide) (by decide) (by decide) (by decide) ?_
    refine x_aload_n 0 dX5_expression_235 rfl ?_
    refine x_aload_n 1 dX5_expression_236 rfl ?_
    obtain ⟨g95, hq⟩ := hq
    obtain ⟨g96, g97, hq⟩ := hq
    refine x_callV (Yc := YX5_applied) (as := [rv x1]) (st := []) q2549 mvX5_applied g95 rfl dX5_expression_237 (xle (xal1 (rv_cat _) (xal1 (rv_cat _) xal0)) (by decide)) (xfr g96) (xlo xsw0 (by decide) g97) (xKr hq (fun x99 h98 hq e100 => ?_) (fun _ _ q _ => q))
    replace hq := hq e100
    exact x_aret rfl xty_O dX5_expression_240 hq
  replace hq := hq.2
  by_cases c101 : (fI h x1 3840) = 58
  · replace hq := hq.1 c101
    refine x_tin (tgt := 241) (off := 237) 58 c101 dX5_expression_4 (by decide) (by decide) (by decide) (by decide) ?_
    refine x_aload_n 0 dX5_expression_241 rfl ?_
    refine x_aload_n 1 dX5_expression_242 rfl ?_
    obtain ⟨g102, hq⟩ := hq
    obtain ⟨g103, g104, hq⟩ := hq
    refine x_callV (Yc := YX5_named) (as := [rv x1]) (st := []) q2645 mvX5_named g102 rfl dX5_expression_243 (xle (xal1 (rv_cat _) (xal1 (rv_cat _) xal0)) (by decide)) (xfr g103) (xlo xsw0 (by decide) g104) (xKr hq (fun x106 h105 hq e107 => ?_) (fun _ _ q _ => q))
    replace hq := hq e107
    exact x_aret rfl xty_O dX5_expression_246 hq
  replace hq := hq.2
  by_cases c108 : (fI h x1 3840) = 59
  · replace hq := hq.1 c108
    refine x_tin (tgt := 259) (off := 255) 59 c108 dX5_expression_4 (by decide) (by decide) (by decide) (by decide) ?_
    refine x_aload_n 0 dX5_expression_259 rfl ?_
    refine x_aload_n 1 dX5_expression_260 rfl ?_
    obtain ⟨g109, hq⟩ := hq
    obtain ⟨g110, g111, hq⟩ := hq
    refine x_callV (Yc := YX5_compared) (as := [rv x1]) (st := []) q2681 mvX5_compared g109 rfl dX5_expression_261 (xle (xal1 (rv_cat _) (xal1 (rv_cat _) xal0)) (by decide)) (xfr g110) (xlo xsw0 (by decide) g111) (xKr hq (fun x113 h112 hq e114 => ?_) (fun _ _ q _ => q))
    replace hq := hq e114
    exact x_aret rfl xty_O dX5_expression_264 hq
  replace hq := hq.2
  by_cases c115 : (fI h x1 3840) = 60
  · replace hq := hq.1 c115
    refine x_tin (tgt := 259) (off := 255) 60 c115 dX5_expression_4 (by decide) (by decide) (by decide) (by decide) ?_
    refine x_aload_n 0 dX5_expression_259 rfl ?_
    refine x_aload_n 1 dX5_expression_260 rfl ?_
    obtain ⟨g116, hq⟩ := hq
    obtain ⟨g117, g118, hq⟩ := hq
    refine x_callV (Yc := YX5_compared) (as := [rv x1]) (st := []) q2681 mvX5_compared g116 rfl dX5_expression_261 (xle (xal1 (rv_cat _) (xal1 (rv_cat _) xal0)) (by decide)) (xfr g117) (xlo xsw0 (by decide) g118) (xKr hq (fun x120 h119 hq e121 => ?_) (fun _ _ q _ => q))
    replace hq := hq e121
    exact x_aret rfl xty_O dX5_expression_264 hq
  replace hq := hq.2
  by_cases c122 : (fI h x1 3840) = 61
  · replace hq := hq.1 c122
    refine x_tin (tgt := 259) (off := 255) 61 c122 dX5_expression_4 (by decide) (by decide) (by decide) (by decide) ?_
    refine x_aload_n 0 dX5_expression_259 rfl ?_
    refine x_aload_n 1 dX5_expression_260 rfl ?_
    obtain ⟨g123, hq⟩ := hq
    obtain ⟨g124, g125, hq⟩ := hq
    refine x_callV (Yc := YX5_compared) (as := [rv x1]) (st := []) q2681 mvX5_compared g123 rfl dX5_expression_261 (xle (xal1 (rv_cat _) (xal1 (rv_cat _) xal0)) (by decide)) (xfr g124) (xlo xsw0 (by decide) g125) (xKr hq (fun x127 h126 hq e128 => ?_) (fun _ _ q _ => q))
    replace hq := hq e128
    exact x_aret rfl xty_O dX5_expression_264 hq
  replace hq := hq.2
  by_cases c129 : (fI h x1 3840) = 62
  · replace hq := hq.1 c129
    refine x_tin (tgt := 253) (off := 249) 62 c129 dX5_expression_4 (by decide) (by decide) (by decide) (by decide) ?_
    refine x_aload_n 0 dX5_expression_253 rfl ?_
    refine x_aload_n 1 dX5_expression_254 rfl ?_
    obtain ⟨g130, hq⟩ := hq
    obtain ⟨g131, g132, hq⟩ := hq
    refine x_callV (Yc := YX5_sum) (as := [rv x1]) (st := []) q2657 mvX5_sum g130 rfl dX5_expression_255 (xle (xal1 (rv_cat _) (xal1 (rv_cat _) xal0)) (by decide)) (xfr g131) (xlo xsw0 (by decide) g132) (xKr hq (fun x134 h133 hq e135 => ?_) (fun _ _ q _ => q))
    replace hq := hq e135
    exact x_aret rfl xty_O dX5_expression_258 hq
  replace hq := hq.2
  by_cases c136 : (fI h x1 3840) = 63
  · replace hq := hq.1 c136
    refine x_tin (tgt := 247) (off := 243) 63 c136 dX5_expression_4 (by decide) (by decide) (by decide) (by decide) ?_
    refine x_aload_n 0 dX5_expression_247 rfl ?_
    refine x_aload_n 1 dX5_expression_248 rfl ?_
    obtain ⟨g137, hq⟩ := hq
    obtain ⟨g138, g139, hq⟩ := hq
    refine x_callV (Yc := YX5_signed) (as := [rv x1]) (st := []) q2653 mvX5_signed g137 rfl dX5_expression_249 (xle (xal1 (rv_cat _) (xal1 (rv_cat _) xal0)) (by decide)) (xfr g138) (xlo xsw0 (by decide) g139) (xKr hq (fun x141 h140 hq e142 => ?_) (fun _ _ q _ => q))
    replace hq := hq e142
    exact x_aret rfl xty_O dX5_expression_252 hq
  replace hq := hq.2
  by_cases c143 : (fI h x1 3840) = 64
  · replace hq := hq.1 c143
    refine x_tin (tgt := 259) (off := 255) 64 c143 dX5_expression_4 (by decide) (by decide) (by decide) (by decide) ?_
    refine x_aload_n 0 dX5_expression_259 rfl ?_
    refine x_aload_n 1 dX5_expression_260 rfl ?_
    obtain ⟨g144, hq⟩ := hq
    obtain ⟨g145, g146, hq⟩ := hq
    refine x_callV (Yc := YX5_compared) (as := [rv x1]) (st := []) q2681 mvX5_compared g144 rfl dX5_expression_261 (xle (xal1 (rv_cat _) (xal1 (rv_cat _) xal0)) (by decide)) (xfr g145) (xlo xsw0 (by decide) g146) (xKr hq (fun x148 h147 hq e149 => ?_) (fun _ _ q _ => q))
    replace hq := hq e149
    exact x_aret rfl xty_O dX5_expression_264 hq
  replace hq := hq.2
  by_cases c150 : (fI h x1 3840) = 65
  · replace hq := hq.1 c150
    refine x_tin (tgt := 259) (off := 255) 65 c150 dX5_expression_4 (by decide) (by decide) (by decide) (by decide) ?_
    refine x_aload_n 0 dX5_expression_259 rfl ?_
    refine x_aload_n 1 dX5_expression_260 rfl ?_
    obtain ⟨g151, hq⟩ := hq
    obtain ⟨g152, g153, hq⟩ := hq
    refine x_callV (Yc := YX5_compared) (as := [rv x1]) (st := []) q2681 mvX5_compared g151 rfl dX5_expression_261 (xle (xal1 (rv_cat _) (xal1 (rv_cat _) xal0)) (by decide)) (xfr g152) (xlo xsw0 (by decide) g153) (xKr hq (fun x155 h154 hq e156 => ?_) (fun _ _ q _ => q))
    replace hq := hq e156
    exact x_aret rfl xty_O dX5_expression_264 hq
  replace hq := hq.2
  by_cases c157 : (fI h x1 3840) = 66
  · replace hq := hq.1 c157
    refine x_tin (tgt := 259) (off := 255) 66 c157 dX5_expression_4 (by decide) (by decide) (by decide) (by decide) ?_
    refine x_aload_n 0 dX5_expression_259 rfl ?_
    refine x_aload_n 1 dX5_expression_260 rfl ?_
    obtain ⟨g158, hq⟩ := hq
    obtain ⟨g159, g160, hq⟩ := hq
    refine x_callV (Yc := YX5_compared) (as := [rv x1]) (st := []) q2681 mvX5_compared g158 rfl dX5_expression_261 (xle (xal1 (rv_cat _) (xal1 (rv_cat _) xal0)) (by decide)) (xfr g159) (xlo xsw0 (by decide) g160) (xKr hq (fun x162 h161 hq e163 => ?_) (fun _ _ q _ => q))
    replace hq := hq e163
    exact x_aret rfl xty_O dX5_expression_264 hq
  replace hq := hq.2
  by_cases c164 : (fI h x1 3840) = 67
  · replace hq := hq.1 c164
    refine x_tin (tgt := 175) (off := 171) 67 c164 dX5_expression_4 (by decide) (by decide) (by decide) (by decide) ?_
    refine x_aload_n 0 dX5_expression_175 rfl ?_
    refine x_aload_n 1 dX5_expression_176 rfl ?_
    refine x_getN (v := rv (fR h x1 3842)) gfX5_251 dX5_expression_177 g1 rfl ?_
    obtain ⟨g165, hq⟩ := hq
    obtain ⟨g166, g167, hq⟩ := hq
    refine x_callV (Yc := YX5_expression) (as := [rv (fR h x1 3842)]) (st := []) q2522 mvX5_expression g165 rfl dX5_expression_180 (xle (xal1 (rv_cat _) (xal1 (rv_cat _) xal0)) (by decide)) (xfr g166) (xlo xsw0 (by decide) g167) (xKr hq (fun x169 h168 hq e170 => ?_) (fun _ _ q _ => q))
    replace hq := hq e170
    exact x_aret rfl xty_O dX5_expression_183 hq
  replace hq := hq.2
  replace hq := hq c2 c12 c29 c41 c50 c80 c87 c94 c101 c108 c115 c122 c129 c136 c143 c150 c157 c164
  have nc2 := lv_neT c2 (show (50 : Int32).toInt = 50 from by decide)
  have nc12 := lv_neT c12 (show (51 : Int32).toInt = 51 from by decide)
  have nc29 := lv_neT c29 (show (52 : Int32).toInt = 52 from by decide)
  have nc41 := lv_neT c41 (show (53 : Int32).toInt = 53 from by decide)
  have nc50 := lv_neT c50 (show (54 : Int32).toInt = 54 from by decide)
  have nc80 := lv_neT c80 (show (55 : Int32).toInt = 55 from by decide)
  have nc87 := lv_neT c87 (show (56 : Int32).toInt = 56 from by decide)
  have nc94 := lv_neT c94 (show (57 : Int32).toInt = 57 from by decide)
  have nc101 := lv_neT c101 (show (58 : Int32).toInt = 58 from by decide)
  have nc108 := lv_neT c108 (show (59 : Int32).toInt = 59 from by decide)
  have nc115 := lv_neT c115 (show (60 : Int32).toInt = 60 from by decide)
  have nc122 := lv_neT c122 (show (61 : Int32).toInt = 61 from by decide)
  have nc129 := lv_neT c129 (show (62 : Int32).toInt = 62 from by decide)
  have nc136 := lv_neT c136 (show (63 : Int32).toInt = 63 from by decide)
  have nc143 := lv_neT c143 (show (64 : Int32).toInt = 64 from by decide)
  have nc150 := lv_neT c150 (show (65 : Int32).toInt = 65 from by decide)
  have nc157 := lv_neT c157 (show (66 : Int32).toInt = 66 from by decide)
  have nc164 := lv_neT c164 (show (67 : Int32).toInt = 67 from by decide)
  refine x_tout (tgt := 259) dX5_expression_4 (by omega) (by decide) ?_
  refine x_aload_n 0 dX5_expression_259 rfl ?_
  refine x_aload_n 1 dX5_expression_260 rfl ?_
  obtain ⟨g171, hq⟩ := hq
  obtain ⟨g172, g173, hq⟩ := hq
  refine x_callV (Yc := YX5_compared) (as := [rv x1]) (st := []) q2681 mvX5_compared g171 rfl dX5_expression_261 (xle (xal1 (rv_cat _) (xal1 (rv_cat _) xal0)) (by decide)) (xfr g172) (xlo xsw0 (by decide) g173) (xKr hq (fun x175 h174 hq e176 => ?_) (fun _ _ q _ => q))
  replace hq := hq e176
  exact x_aret rfl xty_O dX5_expression_264 hq
theorem rX5_expression {G : xG} {fr lo : Nat} {x0 : Nat} {x1 : Nat} {h : xH} {Q : Outcome → xH → Prop} (hq : bX5_expression G fr lo x0 x1 h Q) : xR G YX5_expression fr lo [rv x0, rv x1] h Q := by
  show xP _ _ _ _ _ (lv_args 0 _) _ _ _
  rw [show lv_args 0 [rv x0, rv x1] = [(0, rv x0), (1, rv x1)] from (xla1 (rv_cat _) (xla1 (rv_cat _) xla0))]
  exact uX5_expression hq
set_option maxRecDepth 100000 in
theorem dX5_string_0 : decode cX5_string 0 = .ok (.aload_n 1, 1) := by decide +kernel
set_option maxRecDepth 100000 in
theorem dX5_string_1 : decode cX5_string 1 = .ok (.invokevirtual 89, 3) := by decide +kernel
set_option maxRecDepth 100000 in
theorem dX5_string_4 : decode cX5_string 4 = .ok (.iconst 1, 1) := by decide +kernel
set_option maxRecDepth 100000 in
theorem dX5_string_5 : decode cX5_string 5 = .ok (.if_icmp .ne 25, 3) := by decide +kernel
set_option maxRecDepth 100000 in
theorem dX5_string_8 : decode cX5_string 8 = .ok (.aload_n 0, 1) := by decide +kernel
set_option maxRecDepth 100000 in
theorem dX5_string_9 : decode cX5_string 9 = .ok (.getfield 62, 3) := by decide +kernel
set_option maxRecDepth 100000 in
theorem dX5_string_12 : decode cX5_string 12 = .ok (.iconst 0, 1) := by decide +kernel
set_option maxRecDepth 100000 in
theorem dX5_string_13 : decode cX5_string 13 = .ok (.aload_n 1, 1) := by decide +kernel
set_option maxRecDepth 100000 in
theorem dX5_string_14 : decode cX5_string 14 = .ok (.iconst 0, 1) := by decide +kernel
set_option maxRecDepth 100000 in
theorem dX5_string_15 : decode cX5_string 15 = .ok (.invokevirtual 95, 3) := by decide +kernel
set_option maxRecDepth 100000 in
theorem dX5_string_18 : decode cX5_string 18 = .ok (.iconst 0, 1) := by decide +kernel
set_option maxRecDepth 100000 in
theorem dX5_string_19 : decode cX5_string 19 = .ok (.iconst 0, 1) := by decide +kernel
set_option maxRecDepth 100000 in
theorem dX5_string_20 : decode cX5_string 20 = .ok (.iconst 0, 1) := by decide +kernel
set_option maxRecDepth 100000 in
theorem dX5_string_21 : decode cX5_string 21 = .ok (.invokevirtual 506, 3) := by decide +kernel
set_option maxRecDepth 100000 in
theorem dX5_string_24 : decode cX5_string 24 = .ok (.pop, 1) := by decide +kernel
set_option maxRecDepth 100000 in
theorem dX5_string_25 : decode cX5_string 25 = .ok (.aload_n 0, 1) := by decide +kernel
set_option maxRecDepth 100000 in
theorem dX5_string_26 : decode cX5_string 26 = .ok (.getfield 32, 3) := by decide +kernel
set_option maxRecDepth 100000 in
theorem dX5_string_29 : decode cX5_string 29 = .ok (.areturn, 1) := by decide +kernel
set_option maxRecDepth 100000 in
theorem dX5_string_30 : decode cX5_string 30 = .ok (.aload_n 0, 1) := by decide +kernel
set_option maxRecDepth 100000 in
theorem dX5_string_31 : decode cX5_string 31 = .ok (.getfield 62, 3) := by decide +kernel
set_option maxRecDepth 100000 in
theorem dX5_string_34 : decode cX5_string 34 = .ok (.iconst 0, 1) := by decide +kernel
set_option maxRecDepth 100000 in
theorem dX5_string_35 : decode cX5_string 35 = .ok (.sipush 30000, 3) := by decide +kernel
set_option maxRecDepth 100000 in
theorem dX5_string_38 : decode cX5_string 38 = .ok (.aload_n 0, 1) := by decide +kernel
set_option maxRecDepth 100000 in
theorem dX5_string_39 : decode cX5_string 39 = .ok (.getfield 62, 3) := by decide +kernel
set_option maxRecDepth 100000 in
theorem dX5_string_42 : decode cX5_string 42 = .ok (.aload_n 1, 1) := by decide +kernel
set_option maxRecDepth 100000 in
theorem dX5_string_43 : decode cX5_string 43 = .ok (.invokevirtual 239, 3) := by decide +kernel
set_option maxRecDepth 100000 in
theorem dX5_string_46 : decode cX5_string 46 = .ok (.iadd, 1) := by decide +kernel
set_option maxRecDepth 100000 in
theorem dX5_string_47 : decode cX5_string 47 = .ok (.iconst 0, 1) := by decide +kernel
set_option maxRecDepth 100000 in
theorem dX5_string_48 : decode cX5_string 48 = .ok (.iconst 0, 1) := by decide +kernel
set_option maxRecDepth 100000 in
theorem dX5_string_49 : decode cX5_string 49 = .ok (.iconst 0, 1) := by decide +kernel
set_option maxRecDepth 100000 in
theorem dX5_string_50 : decode cX5_string 50 = .ok (.invokevirtual 506, 3) := by decide +kernel
set_option maxRecDepth 100000 in
theorem dX5_string_53 : decode cX5_string 53 = .ok (.pop, 1) := by decide +kernel
set_option maxRecDepth 100000 in
theorem dX5_string_54 : decode cX5_string 54 = .ok (.new 9, 3) := by decide +kernel
set_option maxRecDepth 100000 in
theorem dX5_string_57 : decode cX5_string 57 = .ok (.dup, 1) := by decide +kernel
set_option maxRecDepth 100000 in
theorem dX5_string_58 : decode cX5_string 58 = .ok (.bipush 13, 2) := by decide +kernel
set_option maxRecDepth 100000 in
theorem dX5_string_60 : decode cX5_string 60 = .ok (.invokespecial 11, 3) := by decide +kernel
set_option maxRecDepth 100000 in
theorem dX5_string_63 : decode cX5_string 63 = .ok (.iconst 1, 1) := by decide +kernel
set_option maxRecDepth 100000 in
theorem dX5_string_64 : decode cX5_string 64 = .ok (.aload_n 1, 1) := by decide +kernel
set_option maxRecDepth 100000 in
theorem dX5_string_65 : decode cX5_string 65 = .ok (.invokevirtual 89, 3) := by decide +kernel
set_option maxRecDepth 100000 in
theorem dX5_string_68 : decode cX5_string 68 = .ok (.invokevirtual 16, 3) := by decide +kernel
set_option maxRecDepth 100000 in
theorem dX5_string_71 : decode cX5_string 71 = .ok (.areturn, 1) := by decide +kernel
set_option maxRecDepth 100000 in
def bX5_string (G : xG) (fr lo : Nat) (x0 : Nat) (x1 : Nat) (h : xH) (Q : Outcome → xH → Prop) : Prop := tg h x1 = 31 ∧ 1 ≤ fr ∧ 12 ≤ lo ∧ xRi G YJ5_length (fr - 1) (lo - 12) [rv x1] h (fun x5 h4 => xext h h4 → ((¬ x5 = 1 → tg h4 x0 = 6 ∧ tg h4 (fR h4 x0 1281) = 3 ∧ 1 ≤ fr ∧ 18 ≤ lo ∧ xRi G YX2_literal (fr - 1) (lo - 18) [rv (fR h4 x0 1281), rv x1] h4 (fun x13 h12 => xext h4 h12 → 1 ≤ fr ∧ 17 ≤ lo ∧ xRi G YX2_put (fr - 1) (lo - 17) [rv (fR h4 x0 1281), .int 0, .int (30000 + x13), .int 0, .int 0, .int 0] h12 (fun x19 h18 => xext h12 h18 → nx h18 + 1 ≤ xGN G ∧ us h18 + 9 ≤ xGU G ∧ (∀ (a23 : Nat) (h24 : xH), a23 = nx h18 + 1 → h24 = nO h18 7 9 → xfresh h18 a23 → 1 ≤ fr ∧ 14 ≤ lo ∧ xRv G YX6_init (fr - 1) (lo - 14) [rv a23, .int 13] h24 (fun h31 => xext h24 h31 → 1 ≤ fr ∧ 14 ≤ lo ∧ xRi G YJ5_length (fr - 1) (lo - 14) [rv x1] h31 (fun x42 h41 => xext h31 h41 → 1 ≤ fr ∧ 14 ≤ lo ∧ xRr G YX6_bounded (fr - 1) (lo - 14) [rv a23, .int 1, .int x42] h41 (fun x49 h48 => xext h41 h48 → Q (.returned (some (rv x49))) h48) (fun r h2 => Q (.threw r) h2)) (fun r h2 => Q (.threw r) h2)) (fun r h2 => Q (.threw r) h2))) (fun r h2 => Q (.threw r) h2)) (fun r h2 => Q (.threw r) h2)) ∧ (x5 = 1 → tg h4 x0 = 6 ∧ 1 ≤ fr ∧ 15 ≤ lo ∧ xRi G YJ5_charAt (fr - 1) (lo - 15) [rv x1, .int 0] h4 (fun x56 h55 => xext h4 h55 → tg h55 (fR h4 x0 1281) = 3 ∧ 1 ≤ fr ∧ 17 ≤ lo ∧ xRi G YX2_put (fr - 1) (lo - 17) [rv (fR h4 x0 1281), .int 0, .int x56, .int 0, .int 0, .int 0] h55 (fun x62 h61 => xext h55 h61 → Q (.returned (some (rv (fR h61 x0 1285)))) h61) (fun r h2 => Q (.threw r) h2)) (fun r h2 => Q (.threw r) h2)))) (fun r h2 => Q (.threw r) h2)
set_option maxRecDepth 100000 in
theorem uX5_string {G : xG} {fr lo : Nat} {x0 : Nat} {x1 : Nat} {h : xH} {Q : Outcome → xH → Prop} (hq : bX5_string G fr lo x0 x1 h Q) : xP G YX5_string fr lo 0 [(0, rv x0), (1, rv x1)] [] h Q := by
  unfold bX5_string at hq
  refine x_aload_n 1 dX5_string_0 rfl ?_
  obtain ⟨g1, hq⟩ := hq
  obtain ⟨g2, g3, hq⟩ := hq
  refine x_callV (Yc := YJ5_length) (as := []) (st := []) q780 mvJ5_length g1 rfl dX5_string_1 (xle (xal1 (rv_cat _) xal0) (by decide)) (xfr g2) (xlo xsw0 (by decide) g3) (xKi hq (fun x5 h4 hq e6 => ?_) (fun _ _ q _ => q))
  replace hq := hq e6
  refine x_iconst (v := 1) dX5_string_4 (by decide) ?_
  refine x_icmp_ne (tgt := 30) dX5_string_5 (by decide) (fun c7 => ?_) (fun c7 => ?_)
  · replace hq := hq.1 c7
    refine x_aload_n 0 dX5_string_30 rfl ?_
    obtain ⟨g8, hq⟩ := hq
    refine x_get (v := rv (fR h4 x0 1281)) fdX5_62 dX5_string_31 g8 rfl ?_
    refine x_iconst (v := 0) dX5_string_34 (by decide) ?_
    refine x_sipush (v := 30000) dX5_string_35 (by decide) ?_
    refine x_aload_n 0 dX5_string_38 rfl ?_
    refine x_get (v := rv (fR h4 x0 1281)) fdX5_62 dX5_string_39 g8 rfl ?_
    refine x_aload_n 1 dX5_string_42 rfl ?_
    obtain ⟨g9, hq⟩ := hq
    obtain ⟨g10, g11, hq⟩ := hq
    refine x_callV (Yc := YX2_literal) (as := [rv x1]) (st := [.int 30000, .int 0, rv (fR h4 x0 1281)]) q2236 mvX2_literal g9 rfl dX5_string_43 (xle (xal1 (rv_cat _) (xal1 (rv_cat _) xal0)) (by decide)) (xfr g10) (xlo (xsw1 rfl (xsw1 rfl (xsw1 (rv_cat _) xsw0))) (by decide) g11) (xKi hq (fun x13 h12 hq e14 => ?_) (fun _ _ q _ => q))
    replace hq := hq e14
    refine x_iadd dX5_string_46 ?_
    refine x_iconst (v := 0) dX5_string_47 (by decide) ?_
    refine x_iconst (v := 0) dX5_string_48 (by decide) ?_
    refine x_iconst (v := 0) dX5_string_49 (by decide) ?_
    have t15 : tg h12 (fR h4 x0 1281) = 3 := e14.tg g9 (by decide)
    obtain ⟨g16, g17, hq⟩ := hq
    refine x_callV (Yc := YX2_put) (as := [.int 0, .int (30000 + x13), .int 0, .int 0, .int 0]) (st := []) q2494 mvX2_put t15 rfl dX5_string_50 (xle (xal1 (rv_cat _) (xal1 rfl (xal1 rfl (xal1 rfl (xal1 rfl (xal1 rfl xal0)))))) (by decide)) (xfr g16) (xlo xsw0 (by decide) g17) (xKi hq (fun x19 h18 hq e20 => ?_) (fun _ _ q _ => q))
    replace hq := hq e20
    refine x_pop dX5_string_53 rfl ?_
    obtain ⟨g21, g22, hq⟩ := hq
    obtain ⟨a23, e25⟩ : ∃ y, y = nx h18 + 1 := ⟨_, rfl⟩
    obtain ⟨h24, e26⟩ : ∃ y, y = nO h18 7 9 := ⟨_, rfl⟩
    refine x_new' cdX5_9 dX5_string_54 g21 g22 e25 e26 (fun f27 => ?_)
    replace hq := hq a23 h24 e25 e26 f27
    have t28 : tg h24 a23 = 7 := by rw [e26, e25]; exact tg_nO
    refine x_dup dX5_string_57 (rv_cat _) ?_
    refine x_bipush (v := 13) dX5_string_58 (by decide) ?_
    obtain ⟨g29, g30, hq⟩ := hq
    refine x_callI (Yc := YX6_init) (as := [.int 13]) (st := [rv a23]) q689 miX6_init (by rw [t28]; decide) rfl dX5_string_60 (xle (xal1 (rv_cat _) (xal1 rfl xal0)) (by decide)) (xfr g29) (xlo (xsw1 (rv_cat _) xsw0) (by decide) g30) (xKv hq (fun h31 hq e33 => ?_) (fun _ _ q _ => q))
    replace hq := hq e33
    refine x_iconst (v := 1) dX5_string_63 (by decide) ?_
    refine x_aload_n 1 dX5_string_64 rfl ?_
    have t34 : tg h4 x1 = 31 := e6.tg g1 (by decide)
    have t35 : tg h12 x1 = 31 := e14.tg t34 (by decide)
    have t36 : tg h18 x1 = 31 := e20.tg t35 (by decide)
    have t37 : tg h24 x1 = 31 := by rw [e26]; exact tg_nO_ne e25 f27 t36 (by decide)
    have t38 : tg h31 x1 = 31 := e33.tg t37 (by decide)
    obtain ⟨g39, g40, hq⟩ := hq
    refine x_callV (Yc := YJ5_length) (as := []) (st := [.int 1, rv a23]) q780 mvJ5_length t38 rfl dX5_string_65 (xle (xal1 (rv_cat _) xal0) (by decide)) (xfr g39) (xlo (xsw1 rfl (xsw1 (rv_cat _) xsw0)) (by decide) g40) (xKi hq (fun x42 h41 hq e43 => ?_) (fun _ _ q _ => q))
    replace hq := hq e43
    have t44 : tg h31 a23 = 7 := e33.tg t28 (by decide)
    have t45 : tg h41 a23 = 7 := e43.tg t44 (by decide)
    obtain ⟨g46, g47, hq⟩ := hq
    refine x_callV (Yc := YX6_bounded) (as := [.int 1, .int x42]) (st := []) q736 mvX6_bounded t45 rfl dX5_string_68 (xle (xal1 (rv_cat _) (xal1 rfl (xal1 rfl xal0))) (by decide)) (xfr g46) (xlo xsw0 (by decide) g47) (xKr hq (fun x49 h48 hq e50 => ?_) (fun _ _ q _ => q))
    replace hq := hq e50
    exact x_aret rfl xty_O dX5_string_71 hq
  · replace hq := hq.2 c7
    refine x_aload_n 0 dX5_string_8 rfl ?_
    obtain ⟨g51, hq⟩ := hq
    refine x_get (v := rv (fR h4 x0 1281)) fdX5_62 dX5_string_9 g51 rfl ?_
    refine x_iconst (v := 0) dX5_string_12 (by decide) ?_
    refine x_aload_n 1 dX5_string_13 rfl ?_
    refine x_iconst (v := 0) dX5_string_14 (by decide) ?_
    have t52 : tg h4 x1 = 31 := e6.tg g1 (by decide)
    obtain ⟨g53, g54, hq⟩ := hq
    refine x_callV (Yc := YJ5_charAt) (as := [.int 0]) (st := [.int 0, rv (fR h4 x0 1281)]) q789 mvJ5_charAt t52 rfl dX5_string_15 (xle (xal1 (rv_cat _) (xal1 rfl xal0)) (by decide)) (xfr g53) (xlo (xsw1 rfl (xsw1 (rv_cat _) xsw0)) (by decide) g54) (xKi hq (fun x56 h55 hq e57 => ?_) (fun _ _ q _ => q))
    replace hq := hq e57
    refine x_iconst (v := 0) dX5_string_18 (by decide) ?_
    refine x_iconst (v := 0) dX5_string_19 (by decide) ?_
    refine x_iconst (v := 0) dX5_string_20 (by decide) ?_
    obtain ⟨g58, hq⟩ := hq
    obtain ⟨g59, g60, hq⟩ := hq
    refine x_callV (Yc := YX2_put) (as := [.int 0, .int x56, .int 0, .int 0, .int 0]) (st := []) q2494 mvX2_put g58 rfl dX5_string_21 (xle (xal1 (rv_cat _) (xal1 rfl (xal1 rfl (xal1 rfl (xal1 rfl (xal1 rfl xal0)))))) (by decide)) (xfr g59) (xlo xsw0 (by decide) g60) (xKi hq (fun x62 h61 hq e63 => ?_) (fun _ _ q _ => q))
    replace hq := hq e63
    refine x_pop dX5_string_24 rfl ?_
    refine x_aload_n 0 dX5_string_25 rfl ?_
    have t64 : tg h55 x0 = 6 := e57.tg g51 (by decide)
    have t65 : tg h61 x0 = 6 := e63.tg t64 (by decide)
    refine x_get (v := rv (fR h61 x0 1285)) fdX5_32 dX5_string_26 t65 rfl ?_
    exact x_aret rfl xty_O dX5_string_29 hq
theorem rX5_string {G : xG} {fr lo : Nat} {x0 : Nat} {x1 : Nat} {h : xH} {Q : Outcome → xH → Prop} (hq : bX5_string G fr lo x0 x1 h Q) : xR G YX5_string fr lo [rv x0, rv x1] h Q := by
  show xP _ _ _ _ _ (lv_args 0 _) _ _ _
  rw [show lv_args 0 [rv x0, rv x1] = [(0, rv x0), (1, rv x1)] from (xla1 (rv_cat _) (xla1 (rv_cat _) xla0))]
  exact uX5_string hq
set_option maxRecDepth 100000 in
theorem dX5_made_0 : decode cX5_made 0 = .ok (.aload_n 0, 1) := by decide +kernel
set_option maxRecDepth 100000 in
theorem dX5_made_1 : decode cX5_made 1 = .ok (.getfield 62, 3) := by decide +kernel
set_option maxRecDepth 100000 in
theorem dX5_made_4 : decode cX5_made 4 = .ok (.bipush 42, 2) := by decide +kernel
set_option maxRecDepth 100000 in
theorem dX5_made_6 : decode cX5_made 6 = .ok (.iconst 0, 1) := by decide +kernel
set_option maxRecDepth 100000 in
theorem dX5_made_7 : decode cX5_made 7 = .ok (.iconst 0, 1) := by decide +kernel
set_option maxRecDepth 100000 in
theorem dX5_made_8 : decode cX5_made 8 = .ok (.iconst 0, 1) := by decide +kernel
set_option maxRecDepth 100000 in
theorem dX5_made_9 : decode cX5_made 9 = .ok (.iconst 0, 1) := by decide +kernel
set_option maxRecDepth 100000 in
theorem dX5_made_10 : decode cX5_made 10 = .ok (.invokevirtual 506, 3) := by decide +kernel
set_option maxRecDepth 100000 in
theorem dX5_made_13 : decode cX5_made 13 = .ok (.pop, 1) := by decide +kernel
set_option maxRecDepth 100000 in
theorem dX5_made_14 : decode cX5_made 14 = .ok (.aconst_null, 1) := by decide +kernel
set_option maxRecDepth 100000 in
theorem dX5_made_15 : decode cX5_made 15 = .ok (.astore_n 2, 1) := by decide +kernel
set_option maxRecDepth 100000 in
theorem dX5_made_16 : decode cX5_made 16 = .ok (.aload_n 1, 1) := by decide +kernel
set_option maxRecDepth 100000 in
theorem dX5_made_17 : decode cX5_made 17 = .ok (.getfield 251, 3) := by decide +kernel
set_option maxRecDepth 100000 in
theorem dX5_made_20 : decode cX5_made 20 = .ok (.astore_n 3, 1) := by decide +kernel
set_option maxRecDepth 100000 in
theorem dX5_made_21 : decode cX5_made 21 = .ok (.aload_n 3, 1) := by decide +kernel
set_option maxRecDepth 100000 in
theorem dX5_made_22 : decode cX5_made 22 = .ok (.ifnull 92, 3) := by decide +kernel
set_option maxRecDepth 100000 in
theorem dX5_made_25 : decode cX5_made 25 = .ok (.aload_n 3, 1) := by decide +kernel
set_option maxRecDepth 100000 in
theorem dX5_made_26 : decode cX5_made 26 = .ok (.getfield 264, 3) := by decide +kernel
set_option maxRecDepth 100000 in
theorem dX5_made_29 : decode cX5_made 29 = .ok (.bipush 56, 2) := by decide +kernel
set_option maxRecDepth 100000 in
theorem dX5_made_31 : decode cX5_made 31 = .ok (.if_icmp .ne 7, 3) := by decide +kernel
set_option maxRecDepth 100000 in
theorem dX5_made_34 : decode cX5_made 34 = .ok (.iconst 1, 1) := by decide +kernel
set_option maxRecDepth 100000 in
theorem dX5_made_35 : decode cX5_made 35 = .ok (.goto 4, 3) := by decide +kernel
set_option maxRecDepth 100000 in
theorem dX5_made_38 : decode cX5_made 38 = .ok (.iconst 0, 1) := by decide +kernel
set_option maxRecDepth 100000 in
theorem dX5_made_39 : decode cX5_made 39 = .ok (.istore 4, 2) := by decide +kernel
set_option maxRecDepth 100000 in
theorem dX5_made_41 : decode cX5_made 41 = .ok (.aload_n 0, 1) := by decide +kernel
set_option maxRecDepth 100000 in
theorem dX5_made_42 : decode cX5_made 42 = .ok (.iload 4, 2) := by decide +kernel
set_option maxRecDepth 100000 in
theorem dX5_made_44 : decode cX5_made 44 = .ok (.ifCond .eq 10, 3) := by decide +kernel
set_option maxRecDepth 100000 in
theorem dX5_made_47 : decode cX5_made 47 = .ok (.aload_n 3, 1) := by decide +kernel
set_option maxRecDepth 100000 in
theorem dX5_made_48 : decode cX5_made 48 = .ok (.getfield 251, 3) := by decide +kernel
set_option maxRecDepth 100000 in
theorem dX5_made_51 : decode cX5_made 51 = .ok (.goto 4, 3) := by decide +kernel
set_option maxRecDepth 100000 in
theorem dX5_made_54 : decode cX5_made 54 = .ok (.aload_n 3, 1) := by decide +kernel
set_option maxRecDepth 100000 in
theorem dX5_made_55 : decode cX5_made 55 = .ok (.aload_n 2, 1) := by decide +kernel
set_option maxRecDepth 100000 in
theorem dX5_made_56 : decode cX5_made 56 = .ok (.invokevirtual 827, 3) := by decide +kernel
set_option maxRecDepth 100000 in
theorem dX5_made_59 : decode cX5_made 59 = .ok (.astore_n 2, 1) := by decide +kernel
set_option maxRecDepth 100000 in
theorem dX5_made_60 : decode cX5_made 60 = .ok (.iload 4, 2) := by decide +kernel
set_option maxRecDepth 100000 in
theorem dX5_made_62 : decode cX5_made 62 = .ok (.ifCond .eq 16, 3) := by decide +kernel
set_option maxRecDepth 100000 in
theorem dX5_made_65 : decode cX5_made 65 = .ok (.aload_n 0, 1) := by decide +kernel
set_option maxRecDepth 100000 in
theorem dX5_made_66 : decode cX5_made 66 = .ok (.aload_n 3, 1) := by decide +kernel
set_option maxRecDepth 100000 in
theorem dX5_made_67 : decode cX5_made 67 = .ok (.getfield 251, 3) := by decide +kernel
set_option maxRecDepth 100000 in
theorem dX5_made_70 : decode cX5_made 70 = .ok (.getfield 307, 3) := by decide +kernel
set_option maxRecDepth 100000 in
theorem dX5_made_73 : decode cX5_made 73 = .ok (.aload_n 2, 1) := by decide +kernel
set_option maxRecDepth 100000 in
theorem dX5_made_74 : decode cX5_made 74 = .ok (.invokevirtual 827, 3) := by decide +kernel
set_option maxRecDepth 100000 in
theorem dX5_made_77 : decode cX5_made 77 = .ok (.astore_n 2, 1) := by decide +kernel
set_option maxRecDepth 100000 in
theorem dX5_made_78 : decode cX5_made 78 = .ok (.aload_n 0, 1) := by decide +kernel
set_option maxRecDepth 100000 in
theorem dX5_made_79 : decode cX5_made 79 = .ok (.getfield 62, 3) := by decide +kernel
set_option maxRecDepth 100000 in
theorem dX5_made_82 : decode cX5_made 82 = .ok (.iload 4, 2) := by decide +kernel
set_option maxRecDepth 100000 in
theorem dX5_made_84 : decode cX5_made 84 = .ok (.ifCond .eq 8, 3) := by decide +kernel
set_option maxRecDepth 100000 in
theorem dX5_made_87 : decode cX5_made 87 = .ok (.bipush 44, 2) := by decide +kernel
set_option maxRecDepth 100000 in
theorem dX5_made_89 : decode cX5_made 89 = .ok (.goto 5, 3) := by decide +kernel
set_option maxRecDepth 100000 in
theorem dX5_made_92 : decode cX5_made 92 = .ok (.bipush 43, 2) := by decide +kernel
set_option maxRecDepth 100000 in
theorem dX5_made_94 : decode cX5_made 94 = .ok (.iconst 0, 1) := by decide +kernel
set_option maxRecDepth 100000 in
theorem dX5_made_95 : decode cX5_made 95 = .ok (.iconst 0, 1) := by decide +kernel
set_option maxRecDepth 100000 in
theorem dX5_made_96 : decode cX5_made 96 = .ok (.iconst 0, 1) := by decide +kernel
set_option maxRecDepth 100000 in
theorem dX5_made_97 : decode cX5_made 97 = .ok (.aload_n 0, 1) := by decide +kernel
set_option maxRecDepth 100000 in
theorem dX5_made_98 : decode cX5_made 98 = .ok (.aload_n 3, 1) := by decide +kernel
set_option maxRecDepth 100000 in
theorem dX5_made_99 : decode cX5_made 99 = .ok (.invokevirtual 624, 3) := by decide +kernel
set_option maxRecDepth 100000 in
theorem dX5_made_102 : decode cX5_made 102 = .ok (.invokevirtual 506, 3) := by decide +kernel
set_option maxRecDepth 100000 in
theorem dX5_made_105 : decode cX5_made 105 = .ok (.pop, 1) := by decide +kernel
set_option maxRecDepth 100000 in
theorem dX5_made_106 : decode cX5_made 106 = .ok (.aload_n 3, 1) := by decide +kernel
set_option maxRecDepth 100000 in
theorem dX5_made_107 : decode cX5_made 107 = .ok (.getfield 307, 3) := by decide +kernel
set_option maxRecDepth 100000 in
theorem dX5_made_110 : decode cX5_made 110 = .ok (.astore_n 3, 1) := by decide +kernel
set_option maxRecDepth 100000 in
theorem dX5_made_111 : decode cX5_made 111 = .ok (.goto (-90), 3) := by decide +kernel
set_option maxRecDepth 100000 in
theorem dX5_made_114 : decode cX5_made 114 = .ok (.aload_n 2, 1) := by decide +kernel
set_option maxRecDepth 100000 in
theorem dX5_made_115 : decode cX5_made 115 = .ok (.ifnonnull 10, 3) := by decide +kernel
set_option maxRecDepth 100000 in
theorem dX5_made_118 : decode cX5_made 118 = .ok (.aload_n 0, 1) := by decide +kernel
set_option maxRecDepth 100000 in
theorem dX5_made_119 : decode cX5_made 119 = .ok (.getfield 45, 3) := by decide +kernel
set_option maxRecDepth 100000 in
theorem dX5_made_122 : decode cX5_made 122 = .ok (.goto 7, 3) := by decide +kernel
set_option maxRecDepth 100000 in
theorem dX5_made_125 : decode cX5_made 125 = .ok (.aload_n 2, 1) := by decide +kernel
set_option maxRecDepth 100000 in
theorem dX5_made_126 : decode cX5_made 126 = .ok (.invokevirtual 830, 3) := by decide +kernel
set_option maxRecDepth 100000 in
theorem dX5_made_129 : decode cX5_made 129 = .ok (.areturn, 1) := by decide +kernel
def lX5_made_21 (G : xG) (fr lo : Nat) (x0 : Nat) (x2 : Nat) (x3 : Nat) (h : xH) (Q : Outcome → xH → Prop) : Prop := xP G YX5_made fr lo 21 [(0, rv x0), (2, rv x2), (3, rv x3)] [] h Q
set_option maxRecDepth 100000 in
def bX5_made_129 (G : xG) (fr lo : Nat) (s0 : Nat) (h : xH) (Q : Outcome → xH → Prop) : Prop := Q (.returned (some (rv s0))) h
set_option maxRecDepth 100000 in
theorem uX5_made_129 {G : xG} {fr lo : Nat} {s0 : Nat} {h : xH} {Q : Outcome → xH → Prop} (hq : bX5_made_129 G fr lo s0 h Q) : xP G YX5_made fr lo 129 [] [rv s0] h Q := by
  unfold bX5_made_129 at hq
  exact x_aret rfl xty_O dX5_made_129 hq
set_option maxRecDepth 100000 in
def bX5_made_94 (G : xG) (fr lo : Nat) (x0 : Nat) (x2 : Nat) (x3 : Nat) (s0 : Int32) (s1 : Nat) (h : xH) (Q : Outcome → xH → Prop) : Prop := tg h x0 = 6 ∧ 1 ≤ fr ∧ 19 ≤ lo ∧ xRi G YX5_firstOf (fr - 1) (lo - 19) [rv x0, rv x3] h (fun x5 h4 => xext h h4 → tg h4 s1 = 3 ∧ 1 ≤ fr ∧ 17 ≤ lo ∧ xRi G YX2_put (fr - 1) (lo - 17) [rv s1, .int s0, .int 0, .int 0, .int 0, .int x5] h4 (fun x11 h10 => xext h4 h10 → tg h10 x3 = 16 ∧ lX5_made_21 G fr lo x0 x2 (fR h10 x3 3844) h10 Q) (fun r h2 => Q (.threw r) h2)) (fun r h2 => Q (.threw r) h2)
set_option maxRecDepth 100000 in
theorem uX5_made_94 {G : xG} {fr lo : Nat} {x0 : Nat} {x2 : Nat} {x3 : Nat} {s0 : Int32} {s1 : Nat} {h : xH} {Q : Outcome → xH → Prop} (hq : bX5_made_94 G fr lo x0 x2 x3 s0 s1 h Q) : xP G YX5_made fr lo 94 [(0, rv x0), (2, rv x2), (3, rv x3)] [.int s0, rv s1] h Q := by
  unfold bX5_made_94 at hq
  refine x_iconst (v := 0) dX5_made_94 (by decide) ?_
  refine x_iconst (v := 0) dX5_made_95 (by decide) ?_
  refine x_iconst (v := 0) dX5_made_96 (by decide) ?_
  refine x_aload_n 0 dX5_made_97 rfl ?_
  refine x_aload_n 2 dX5_made_98 rfl ?_
  obtain ⟨g1, hq⟩ := hq
  obtain ⟨g2, g3, hq⟩ := hq
  refine x_callV (Yc := YX5_firstOf) (as := [rv x3]) (st := [.int 0, .int 0, .int 0, .int s0, rv s1]) q2510 mvX5_firstOf g1 rfl dX5_made_99 (xle (xal1 (rv_cat _) (xal1 (rv_cat _) xal0)) (by decide)) (xfr g2) (xlo (xsw1 rfl (xsw1 rfl (xsw1 rfl (xsw1 rfl (xsw1 (rv_cat _) xsw0))))) (by decide) g3) (xKi hq (fun x5 h4 hq e6 => ?_) (fun _ _ q _ => q))
  replace hq := hq e6
  obtain ⟨g7, hq⟩ := hq
  obtain ⟨g8, g9, hq⟩ := hq
  refine x_callV (Yc := YX2_put) (as := [.int s0, .int 0, .int 0, .int 0, .int x5]) (st := []) q2494 mvX2_put g7 rfl dX5_made_102 (xle (xal1 (rv_cat _) (xal1 rfl (xal1 rfl (xal1 rfl (xal1 rfl (xal1 rfl xal0)))))) (by decide)) (xfr g8) (xlo xsw0 (by decide) g9) (xKi hq (fun x11 h10 hq e12 => ?_) (fun _ _ q _ => q))
  replace hq := hq e12
  refine x_pop dX5_made_105 rfl ?_
  refine x_aload_n 2 dX5_made_106 rfl ?_
  obtain ⟨g13, hq⟩ := hq
  refine x_getN (v := rv (fR h10 x3 3844)) gfX5_307 dX5_made_107 g13 rfl ?_
  refine x_astore_n (lv' := [(3, rv (fR h10 x3 3844)), (0, rv x0), (2, rv x2)]) dX5_made_110 (by decide) (by first | rfl | (simp [rv_cat, Value.category]; done) | (simp [rv_cat, Value.category]; decide)) ?_
  refine x_goto (tgt := 21) dX5_made_111 (by decide) ?_
  refine xP.pick (lv' := [(0, rv x0), (2, rv x2), (3, rv (fR h10 x3 3844))]) [1, 2, 0] rfl ?_
  exact hq
set_option maxRecDepth 100000 in
def bX5_made_78 (G : xG) (fr lo : Nat) (x0 : Nat) (x2 : Nat) (x3 : Nat) (x4 : Int32) (h : xH) (Q : Outcome → xH → Prop) : Prop := tg h x0 = 6 ∧ ((x4 = 0 → bX5_made_94 G fr lo x0 x2 x3 43 (fR h x0 1281) h Q) ∧ (¬ x4 = 0 → bX5_made_94 G fr lo x0 x2 x3 44 (fR h x0 1281) h Q))
set_option maxRecDepth 100000 in
theorem uX5_made_78 {G : xG} {fr lo : Nat} {x0 : Nat} {x2 : Nat} {x3 : Nat} {x4 : Int32} {h : xH} {Q : Outcome → xH → Prop} (hq : bX5_made_78 G fr lo x0 x2 x3 x4 h Q) : xP G YX5_made fr lo 78 [(0, rv x0), (2, rv x2), (3, rv x3), (4, .int x4)] [] h Q := by
  unfold bX5_made_78 at hq
  refine x_aload_n 0 dX5_made_78 rfl ?_
  obtain ⟨g1, hq⟩ := hq
  refine x_get (v := rv (fR h x0 1281)) fdX5_62 dX5_made_79 g1 rfl ?_
  refine x_iload 3 dX5_made_82 rfl ?_
  refine x_if_eq (tgt := 92) dX5_made_84 (by decide) (fun c2 => ?_) (fun c2 => ?_)
  · replace hq := hq.1 c2
    refine x_bipush (v := 43) dX5_made_92 (by decide) ?_
    refine xP.pick (lv' := [(0, rv x0), (2, rv x2), (3, rv x3)]) [0, 1, 2] rfl ?_
    exact uX5_made_94 hq
  · replace hq := hq.2 c2
    refine x_bipush (v := 44) dX5_made_87 (by decide) ?_
    refine x_goto (tgt := 94) dX5_made_89 (by decide) ?_
    refine xP.pick (lv' := [(0, rv x0), (2, rv x2), (3, rv x3)]) [0, 1, 2] rfl ?_
    exact uX5_made_94 hq
set_option maxRecDepth 100000 in
def bX5_made_55 (G : xG) (fr lo : Nat) (x0 : Nat) (x2 : Nat) (x3 : Nat) (x4 : Int32) (s0 : Nat) (s1 : Nat) (h : xH) (Q : Outcome → xH → Prop) : Prop := tg h s1 = 6 ∧ 1 ≤ fr ∧ 15 ≤ lo ∧ xRr G YX5_part (fr - 1) (lo - 15) [rv s1, rv s0, rv x2] h (fun x5 h4 => xext h h4 → ((x4 = 0 → bX5_made_78 G fr lo x0 x5 x3 x4 h4 Q) ∧ (¬ x4 = 0 → tg h4 x3 = 16 ∧ tg h4 (fR h4 x3 3842) = 16 ∧ tg h4 x0 = 6 ∧ 1 ≤ fr ∧ 15 ≤ lo ∧ xRr G YX5_part (fr - 1) (lo - 15) [rv x0, rv (fR h4 (fR h4 x3 3842) 3844), rv x5] h4 (fun x14 h13 => xext h4 h13 → bX5_made_78 G fr lo x0 x14 x3 x4 h13 Q) (fun r h2 => Q (.threw r) h2)))) (fun r h2 => Q (.threw r) h2)
set_option maxRecDepth 100000 in
theorem uX5_made_55 {G : xG} {fr lo : Nat} {x0 : Nat} {x2 : Nat} {x3 : Nat} {x4 : Int32} {s0 : Nat} {s1 : Nat} {h : xH} {Q : Outcome → xH → Prop} (hq : bX5_made_55 G fr lo x0 x2 x3 x4 s0 s1 h Q) : xP G YX5_made fr lo 55 [(0, rv x0), (2, rv x2), (3, rv x3), (4, .int x4)] [rv s0, rv s1] h Q := by
  unfold bX5_made_55 at hq
  refine x_aload_n 1 dX5_made_55 rfl ?_
  obtain ⟨g1, hq⟩ := hq
  obtain ⟨g2, g3, hq⟩ := hq
  refine x_callV (Yc := YX5_part) (as := [rv s0, rv x2]) (st := []) q2538 mvX5_part g1 rfl dX5_made_56 (xle (xal1 (rv_cat _) (xal1 (rv_cat _) (xal1 (rv_cat _) xal0))) (by decide)) (xfr g2) (xlo xsw0 (by decide) g3) (xKr hq (fun x5 h4 hq e6 => ?_) (fun _ _ q _ => q))
  replace hq := hq e6
  refine x_astore_n (lv' := [(2, rv x5), (0, rv x0), (3, rv x3), (4, .int x4)]) dX5_made_59 (by decide) rfl ?_
  refine x_iload 3 dX5_made_60 rfl ?_
  refine x_if_eq (tgt := 78) dX5_made_62 (by decide) (fun c7 => ?_) (fun c7 => ?_)
  · replace hq := hq.1 c7
    refine xP.pick (lv' := [(0, rv x0), (2, rv x5), (3, rv x3), (4, .int x4)]) [1, 0, 2, 3] rfl ?_
    exact uX5_made_78 hq
  · replace hq := hq.2 c7
    refine x_aload_n 1 dX5_made_65 rfl ?_
    refine x_aload_n 2 dX5_made_66 rfl ?_
    obtain ⟨g8, hq⟩ := hq
    refine x_getN (v := rv (fR h4 x3 3842)) gfX5_251 dX5_made_67 g8 rfl ?_
    obtain ⟨g9, hq⟩ := hq
    refine x_getN (v := rv (fR h4 (fR h4 x3 3842) 3844)) gfX5_307 dX5_made_70 g9 rfl ?_
    refine x_aload_n 0 dX5_made_73 rfl ?_
    obtain ⟨g10, hq⟩ := hq
    obtain ⟨g11, g12, hq⟩ := hq
    refine x_callV (Yc := YX5_part) (as := [rv (fR h4 (fR h4 x3 3842) 3844), rv x5]) (st := []) q2538 mvX5_part g10 rfl dX5_made_74 (xle (xal1 (rv_cat _) (xal1 (rv_cat _) (xal1 (rv_cat _) xal0))) (by decide)) (xfr g11) (xlo xsw0 (by decide) g12) (xKr hq (fun x14 h13 hq e15 => ?_) (fun _ _ q _ => q))
    replace hq := hq e15
    refine x_astore_n (lv' := [(2, rv x14), (0, rv x0), (3, rv x3), (4, .int x4)]) dX5_made_77 (by decide) rfl ?_
    refine xP.pick (lv' := [(0, rv x0), (2, rv x14), (3, rv x3), (4, .int x4)]) [1, 0, 2, 3] rfl ?_
    exact uX5_made_78 hq
set_option maxRecDepth 100000 in
def bX5_made_39 (G : xG) (fr lo : Nat) (x0 : Nat) (x2 : Nat) (x3 : Nat) (s0 : Int32) (h : xH) (Q : Outcome → xH → Prop) : Prop := ((s0 = 0 → bX5_made_55 G fr lo x0 x2 x3 s0 x3 x0 h Q) ∧ (¬ s0 = 0 → tg h x3 = 16 ∧ bX5_made_55 G fr lo x0 x2 x3 s0 (fR h x3 3842) x0 h Q))
set_option maxRecDepth 100000 in
theorem uX5_made_39 {G : xG} {fr lo : Nat} {x0 : Nat} {x2 : Nat} {x3 : Nat} {s0 : Int32} {h : xH} {Q : Outcome → xH → Prop} (hq : bX5_made_39 G fr lo x0 x2 x3 s0 h Q) : xP G YX5_made fr lo 39 [(0, rv x0), (2, rv x2), (3, rv x3)] [.int s0] h Q := by
  unfold bX5_made_39 at hq
  refine x_istore (lv' := [(4, .int s0), (0, rv x0), (2, rv x2), (3, rv x3)]) dX5_made_39 (by decide) (by first | rfl | (simp [rv_cat, Value.category]; done) | (simp [rv_cat, Value.category]; decide)) ?_
  refine x_aload_n 1 dX5_made_41 rfl ?_
  refine x_iload 0 dX5_made_42 rfl ?_
  refine x_if_eq (tgt := 54) dX5_made_44 (by decide) (fun c1 => ?_) (fun c1 => ?_)
  · replace hq := hq.1 c1
    refine x_aload_n 3 dX5_made_54 rfl ?_
    refine xP.pick (lv' := [(0, rv x0), (2, rv x2), (3, rv x3), (4, .int s0)]) [1, 2, 3, 0] rfl ?_
    exact uX5_made_55 hq
  · replace hq := hq.2 c1
    refine x_aload_n 3 dX5_made_47 rfl ?_
    obtain ⟨g2, hq⟩ := hq
    refine x_getN (v := rv (fR h x3 3842)) gfX5_251 dX5_made_48 g2 rfl ?_
    refine x_goto (tgt := 55) dX5_made_51 (by decide) ?_
    refine xP.pick (lv' := [(0, rv x0), (2, rv x2), (3, rv x3), (4, .int s0)]) [1, 2, 3, 0] rfl ?_
    exact uX5_made_55 hq
set_option maxRecDepth 100000 in
def bX5_made_21 (G : xG) (fr lo : Nat) (x0 : Nat) (x2 : Nat) (x3 : Nat) (h : xH) (Q : Outcome → xH → Prop) : Prop := ((x3 = 0 → ((¬ x2 = 0 → tg h x2 = 7 ∧ 1 ≤ fr ∧ 12 ≤ lo ∧ xRr G YX6_setOf (fr - 1) (lo - 12) [rv x2] h (fun x7 h6 => xext h h6 → bX5_made_129 G fr lo x7 h6 Q) (fun r h2 => Q (.threw r) h2)) ∧ (x2 = 0 → tg h x0 = 6 ∧ bX5_made_129 G fr lo (fR h x0 1288) h Q))) ∧ (¬ x3 = 0 → tg h x3 = 16 ∧ ((¬ (fI h x3 3840) = 56 → bX5_made_39 G fr lo x0 x2 x3 0 h Q) ∧ ((fI h x3 3840) = 56 → bX5_made_39 G fr lo x0 x2 x3 1 h Q))))
set_option maxRecDepth 100000 in
theorem uX5_made_21 {G : xG} {fr lo : Nat} {x0 : Nat} {x2 : Nat} {x3 : Nat} {h : xH} {Q : Outcome → xH → Prop} (hq : bX5_made_21 G fr lo x0 x2 x3 h Q) : xP G YX5_made fr lo 21 [(0, rv x0), (2, rv x2), (3, rv x3)] [] h Q := by
  unfold bX5_made_21 at hq
  refine x_aload_n 2 dX5_made_21 rfl ?_
  refine x_ifnull (tgt := 114) dX5_made_22 (by decide) (fun c1 => ?_) (fun c1 => ?_)
  · replace hq := hq.1 c1
    refine x_aload_n 1 dX5_made_114 rfl ?_
    refine x_ifnonnull (tgt := 125) dX5_made_115 (by decide) (fun c2 => ?_) (fun c2 => ?_)
    · replace hq := hq.1 c2
      refine x_aload_n 1 dX5_made_125 rfl ?_
      obtain ⟨g3, hq⟩ := hq
      obtain ⟨g4, g5, hq⟩ := hq
      refine x_callV (Yc := YX6_setOf) (as := []) (st := []) q2542 mvX6_setOf g3 rfl dX5_made_126 (xle (xal1 (rv_cat _) xal0) (by decide)) (xfr g4) (xlo xsw0 (by decide) g5) (xKr hq (fun x7 h6 hq e8 => ?_) (fun _ _ q _ => q))
      replace hq := hq e8
      refine xP.pick (lv' := []) [] rfl ?_
      exact uX5_made_129 hq
    · replace hq := hq.2 c2
      refine x_aload_n 0 dX5_made_118 rfl ?_
      obtain ⟨g9, hq⟩ := hq
      refine x_get (v := rv (fR h x0 1288)) fdX5_45 dX5_made_119 g9 rfl ?_
      refine x_goto (tgt := 129) dX5_made_122 (by decide) ?_
      refine xP.pick (lv' := []) [] rfl ?_
      exact uX5_made_129 hq
  · replace hq := hq.2 c1
    refine x_aload_n 2 dX5_made_25 rfl ?_
    obtain ⟨g10, hq⟩ := hq
    refine x_getN (v := .int (fI h x3 3840)) gfX5_264 dX5_made_26 g10 rfl ?_
    refine x_bipush (v := 56) dX5_made_29 (by decide) ?_
    refine x_icmp_ne (tgt := 38) dX5_made_31 (by decide) (fun c11 => ?_) (fun c11 => ?_)
    · replace hq := hq.1 c11
      refine x_iconst (v := 0) dX5_made_38 (by decide) ?_
      exact uX5_made_39 hq
    · replace hq := hq.2 c11
      refine x_iconst (v := 1) dX5_made_34 (by decide) ?_
      refine x_goto (tgt := 39) dX5_made_35 (by decide) ?_
      exact uX5_made_39 hq
set_option maxRecDepth 100000 in
def bX5_made (G : xG) (fr lo : Nat) (x0 : Nat) (x1 : Nat) (h : xH) (Q : Outcome → xH → Prop) : Prop := tg h x0 = 6 ∧ tg h (fR h x0 1281) = 3 ∧ 1 ≤ fr ∧ 17 ≤ lo ∧ xRi G YX2_put (fr - 1) (lo - 17) [rv (fR h x0 1281), .int 42, .int 0, .int 0, .int 0, .int 0] h (fun x6 h5 => xext h h5 → tg h5 x1 = 16 ∧ lX5_made_21 G fr lo x0 0 (fR h5 x1 3842) h5 Q) (fun r h2 => Q (.threw r) h2)
set_option maxRecDepth 100000 in
theorem uX5_made {G : xG} {fr lo : Nat} {x0 : Nat} {x1 : Nat} {h : xH} {Q : Outcome → xH → Prop} (hq : bX5_made G fr lo x0 x1 h Q) : xP G YX5_made fr lo 0 [(0, rv x0), (1, rv x1)] [] h Q := by
  unfold bX5_made at hq
  refine x_aload_n 0 dX5_made_0 rfl ?_
  obtain ⟨g1, hq⟩ := hq
  refine x_get (v := rv (fR h x0 1281)) fdX5_62 dX5_made_1 g1 rfl ?_
  refine x_bipush (v := 42) dX5_made_4 (by decide) ?_
  refine x_iconst (v := 0) dX5_made_6 (by decide) ?_
  refine x_iconst (v := 0) dX5_made_7 (by decide) ?_
  refine x_iconst (v := 0) dX5_made_8 (by decide) ?_
  refine x_iconst (v := 0) dX5_made_9 (by decide) ?_
  obtain ⟨g2, hq⟩ := hq
  obtain ⟨g3, g4, hq⟩ := hq
  refine x_callV (Yc := YX2_put) (as := [.int 42, .int 0, .int 0, .int 0, .int 0]) (st := []) q2494 mvX2_put g2 rfl dX5_made_10 (xle (xal1 (rv_cat _) (xal1 rfl (xal1 rfl (xal1 rfl (xal1 rfl (xal1 rfl xal0)))))) (by decide)) (xfr g3) (xlo xsw0 (by decide) g4) (xKi hq (fun x6 h5 hq e7 => ?_) (fun _ _ q _ => q))
  replace hq := hq e7
  refine x_pop dX5_made_13 rfl ?_
  refine x_null dX5_made_14 ?_
  refine x_astore_n (lv' := [(2, rv 0), (0, rv x0), (1, rv x1)]) dX5_made_15 (by decide) (by first | rfl | (simp [rv_cat, Value.category]; done) | (simp [rv_cat, Value.category]; decide)) ?_
  refine x_aload_n 2 dX5_made_16 rfl ?_
  obtain ⟨g8, hq⟩ := hq
  refine x_getN (v := rv (fR h5 x1 3842)) gfX5_251 dX5_made_17 g8 rfl ?_
  refine x_astore_n (lv' := [(3, rv (fR h5 x1 3842)), (2, rv 0), (0, rv x0), (1, rv x1)]) dX5_made_20 (by decide) (by first | rfl | (simp [rv_cat, Value.category]; done) | (simp [rv_cat, Value.category]; decide)) ?_
  refine xP.pick (lv' := [(0, rv x0), (2, rv 0), (3, rv (fR h5 x1 3842))]) [2, 1, 0] rfl ?_
  exact hq
theorem rX5_made {G : xG} {fr lo : Nat} {x0 : Nat} {x1 : Nat} {h : xH} {Q : Outcome → xH → Prop} (hq : bX5_made G fr lo x0 x1 h Q) : xR G YX5_made fr lo [rv x0, rv x1] h Q := by
  show xP _ _ _ _ _ (lv_args 0 _) _ _ _
  rw [show lv_args 0 [rv x0, rv x1] = [(0, rv x0), (1, rv x1)] from (xla1 (rv_cat _) (xla1 (rv_cat _) xla0))]
  exact uX5_made hq
set_option maxRecDepth 100000 in
theorem dX5_part_0 : decode cX5_part 0 = .ok (.aload_n 0, 1) := by decide +kernel
set_option maxRecDepth 100000 in
theorem dX5_part_1 : decode cX5_part 1 = .ok (.aload_n 1, 1) := by decide +kernel
set_option maxRecDepth 100000 in
theorem dX5_part_2 : decode cX5_part 2 = .ok (.invokevirtual 654, 3) := by decide +kernel
set_option maxRecDepth 100000 in
theorem dX5_part_5 : decode cX5_part 5 = .ok (.astore_n 3, 1) := by decide +kernel
set_option maxRecDepth 100000 in
theorem dX5_part_6 : decode cX5_part 6 = .ok (.aload_n 3, 1) := by decide +kernel
set_option maxRecDepth 100000 in
theorem dX5_part_7 : decode cX5_part 7 = .ok (.invokevirtual 318, 3) := by decide +kernel
set_option maxRecDepth 100000 in
theorem dX5_part_10 : decode cX5_part 10 = .ok (.ifCond .eq 12, 3) := by decide +kernel
set_option maxRecDepth 100000 in
theorem dX5_part_13 : decode cX5_part 13 = .ok (.aload_n 2, 1) := by decide +kernel
set_option maxRecDepth 100000 in
theorem dX5_part_14 : decode cX5_part 14 = .ok (.ifnull 20, 3) := by decide +kernel
set_option maxRecDepth 100000 in
theorem dX5_part_17 : decode cX5_part 17 = .ok (.aload_n 2, 1) := by decide +kernel
set_option maxRecDepth 100000 in
theorem dX5_part_18 : decode cX5_part 18 = .ok (.aload_n 3, 1) := by decide +kernel
set_option maxRecDepth 100000 in
theorem dX5_part_19 : decode cX5_part 19 = .ok (.if_acmp .eq 15, 3) := by decide +kernel
set_option maxRecDepth 100000 in
theorem dX5_part_22 : decode cX5_part 22 = .ok (.aload_n 0, 1) := by decide +kernel
set_option maxRecDepth 100000 in
theorem dX5_part_23 : decode cX5_part 23 = .ok (.bipush 7, 2) := by decide +kernel
set_option maxRecDepth 100000 in
theorem dX5_part_25 : decode cX5_part 25 = .ok (.aload_n 0, 1) := by decide +kernel
set_option maxRecDepth 100000 in
theorem dX5_part_26 : decode cX5_part 26 = .ok (.aload_n 1, 1) := by decide +kernel
set_option maxRecDepth 100000 in
theorem dX5_part_27 : decode cX5_part 27 = .ok (.invokevirtual 624, 3) := by decide +kernel
set_option maxRecDepth 100000 in
theorem dX5_part_30 : decode cX5_part 30 = .ok (.invokevirtual 163, 3) := by decide +kernel
set_option maxRecDepth 100000 in
theorem dX5_part_33 : decode cX5_part 33 = .ok (.athrow, 1) := by decide +kernel
set_option maxRecDepth 100000 in
theorem dX5_part_34 : decode cX5_part 34 = .ok (.aload_n 3, 1) := by decide +kernel
set_option maxRecDepth 100000 in
theorem dX5_part_35 : decode cX5_part 35 = .ok (.areturn, 1) := by decide +kernel
set_option maxRecDepth 100000 in
def bX5_part_34 (G : xG) (fr lo : Nat) (x3 : Nat) (h : xH) (Q : Outcome → xH → Prop) : Prop := Q (.returned (some (rv x3))) h
set_option maxRecDepth 100000 in
theorem uX5_part_34 {G : xG} {fr lo : Nat} {x3 : Nat} {h : xH} {Q : Outcome → xH → Prop} (hq : bX5_part_34 G fr lo x3 h Q) : xP G YX5_part fr lo 34 [(3, rv x3)] [] h Q := by
  unfold bX5_part_34 at hq
  refine x_aload_n 0 dX5_part_34 rfl ?_
  exact x_aret rfl xty_O dX5_part_35 hq
set_option maxRecDepth 100000 in
def bX5_part_22 (G : xG) (fr lo : Nat) (x0 : Nat) (x1 : Nat) (h : xH) (Q : Outcome → xH → Prop) : Prop := tg h x0 = 6 ∧ 1 ≤ fr ∧ 16 ≤ lo ∧ xRi G YX5_firstOf (fr - 1) (lo - 16) [rv x0, rv x1] h (fun x5 h4 => xext h h4 → 1 ≤ fr ∧ 14 ≤ lo ∧ xRr G YX5_fault (fr - 1) (lo - 14) [rv x0, .int 7, .int x5] h4 (fun x11 h10 => xext h4 h10 → (∃ r13, x11 = r13 + 1 ∧ Q (.threw r13) h10)) (fun r h2 => Q (.threw r) h2)) (fun r h2 => Q (.threw r) h2)
set_option maxRecDepth 100000 in
theorem uX5_part_22 {G : xG} {fr lo : Nat} {x0 : Nat} {x1 : Nat} {h : xH} {Q : Outcome → xH → Prop} (hq : bX5_part_22 G fr lo x0 x1 h Q) : xP G YX5_part fr lo 22 [(0, rv x0), (1, rv x1)] [] h Q := by
  unfold bX5_part_22 at hq
  refine x_aload_n 0 dX5_part_22 rfl ?_
  refine x_bipush (v := 7) dX5_part_23 (by decide) ?_
  refine x_aload_n 0 dX5_part_25 rfl ?_
  refine x_aload_n 1 dX5_part_26 rfl ?_
  obtain ⟨g1, hq⟩ := hq
  obtain ⟨g2, g3, hq⟩ := hq
  refine x_callV (Yc := YX5_firstOf) (as := [rv x1]) (st := [.int 7, rv x0]) q2510 mvX5_firstOf g1 rfl dX5_part_27 (xle (xal1 (rv_cat _) (xal1 (rv_cat _) xal0)) (by decide)) (xfr g2) (xlo (xsw1 rfl (xsw1 (rv_cat _) xsw0)) (by decide) g3) (xKi hq (fun x5 h4 hq e6 => ?_) (fun _ _ q _ => q))
  replace hq := hq e6
  have t7 : tg h4 x0 = 6 := e6.tg g1 (by decide)
  obtain ⟨g8, g9, hq⟩ := hq
  refine x_callV (Yc := YX5_fault) (as := [.int 7, .int x5]) (st := []) q2087 mvX5_fault t7 rfl dX5_part_30 (xle (xal1 (rv_cat _) (xal1 rfl (xal1 rfl xal0))) (by decide)) (xfr g8) (xlo xsw0 (by decide) g9) (xKr hq (fun x11 h10 hq e12 => ?_) (fun _ _ q _ => q))
  replace hq := hq e12
  obtain ⟨r13, g14, hq⟩ := hq
  rw [g14]
  exact x_athrow dX5_part_33 hq
set_option maxRecDepth 100000 in
def bX5_part (G : xG) (fr lo : Nat) (x0 : Nat) (x1 : Nat) (x2 : Nat) (h : xH) (Q : Outcome → xH → Prop) : Prop := tg h x0 = 6 ∧ 1 ≤ fr ∧ 13 ≤ lo ∧ xRr G YX5_expression (fr - 1) (lo - 13) [rv x0, rv x1] h (fun x5 h4 => xext h h4 → tg h4 x5 = 7 ∧ 1 ≤ fr ∧ 12 ≤ lo ∧ xRi G YX6_isOrdinal (fr - 1) (lo - 12) [rv x5] h4 (fun x11 h10 => xext h4 h10 → ((x11 = 0 → bX5_part_22 G fr lo x0 x1 h10 Q) ∧ (¬ x11 = 0 → ((x2 = 0 → bX5_part_34 G fr lo x5 h10 Q) ∧ (¬ x2 = 0 → ((x2 = x5 → bX5_part_34 G fr lo x5 h10 Q) ∧ (¬ x2 = x5 → bX5_part_22 G fr lo x0 x1 h10 Q))))))) (fun r h2 => Q (.threw r) h2)) (fun r h2 => Q (.threw r) h2)
set_option maxRecDepth 100000 in
theorem uX5_part {G : xG} {fr lo : Nat} {x0 : Nat} {x1 : Nat} {x2 : Nat} {h : xH} {Q : Outcome → xH → Prop} (hq : bX5_part G fr lo x0 x1 x2 h Q) : xP G YX5_part fr lo 0 [(0, rv x0), (1, rv x1), (2, rv x2)] [] h Q := by
  unfold bX5_part at hq
  refine x_aload_n 0 dX5_part_0 rfl ?_
  refine x_aload_n 1 dX5_part_1 rfl ?_
  obtain ⟨g1, hq⟩ := hq
  obtain ⟨g2, g3, hq⟩ := hq
  refine x_callV (Yc := YX5_expression) (as := [rv x1]) (st := []) q2522 mvX5_expression g1 rfl dX5_part_2 (xle (xal1 (rv_cat _) (xal1 (rv_cat _) xal0)) (by decide)) (xfr g2) (xlo xsw0 (by decide) g3) (xKr hq (fun x5 h4 hq e6 => ?_) (fun _ _ q _ => q))
  replace hq := hq e6
  refine x_astore_n (lv' := [(3, rv x5), (0, rv x0), (1, rv x1), (2, rv x2)]) dX5_part_5 (by decide) (by first | rfl | (simp [rv_cat, Value.category]; done) | (simp [rv_cat, Value.category]; decide)) ?_
  refine x_aload_n 0 dX5_part_6 rfl ?_
  obtain ⟨g7, hq⟩ := hq
  obtain ⟨g8, g9, hq⟩ := hq
  refine x_callV (Yc := YX6_isOrdinal) (as := []) (st := []) q2288 mvX6_isOrdinal g7 rfl dX5_part_7 (xle (xal1 (rv_cat _) xal0) (by decide)) (xfr g8) (xlo xsw0 (by decide) g9) (xKi hq (fun x11 h10 hq e12 => ?_) (fun _ _ q _ => q))
  replace hq := hq e12
  refine x_if_eq (tgt := 22) dX5_part_10 (by decide) (fun c13 => ?_) (fun c13 => ?_)
  · replace hq := hq.1 c13
    refine xP.pick (lv' := [(0, rv x0), (1, rv x1)]) [1, 2] rfl ?_
    exact uX5_part_22 hq
  · replace hq := hq.2 c13
    refine x_aload_n 3 dX5_part_13 rfl ?_
    refine x_ifnull (tgt := 34) dX5_part_14 (by decide) (fun c14 => ?_) (fun c14 => ?_)
    · replace hq := hq.1 c14
      refine xP.pick (lv' := [(3, rv x5)]) [0] rfl ?_
      exact uX5_part_34 hq
    · replace hq := hq.2 c14
      refine x_aload_n 3 dX5_part_17 rfl ?_
      refine x_aload_n 0 dX5_part_18 rfl ?_
      refine x_acmp_eq (tgt := 34) dX5_part_19 (by decide) (fun c15 => ?_) (fun c15 => ?_)
      · replace hq := hq.1 c15
        refine xP.pick (lv' := [(3, rv x5)]) [0] rfl ?_
        exact uX5_part_34 hq
      · replace hq := hq.2 c15
        refine xP.pick (lv' := [(0, rv x0), (1, rv x1)]) [1, 2] rfl ?_
        exact uX5_part_22 hq
theorem rX5_part {G : xG} {fr lo : Nat} {x0 : Nat} {x1 : Nat} {x2 : Nat} {h : xH} {Q : Outcome → xH → Prop} (hq : bX5_part G fr lo x0 x1 x2 h Q) : xR G YX5_part fr lo [rv x0, rv x1, rv x2] h Q := by
  show xP _ _ _ _ _ (lv_args 0 _) _ _ _
  rw [show lv_args 0 [rv x0, rv x1, rv x2] = [(0, rv x0), (1, rv x1), (2, rv x2)] from (xla1 (rv_cat _) (xla1 (rv_cat _) (xla1 (rv_cat _) xla0)))]
  exact uX5_part hq
set_option maxRecDepth 100000 in
theorem dX5_applied_0 : decode cX5_applied 0 = .ok (.aload_n 0, 1) := by decide +kernel
set_option maxRecDepth 100000 in
theorem dX5_applied_1 : decode cX5_applied 1 = .ok (.aload_n 1, 1) := by decide +kernel
set_option maxRecDepth 100000 in
theorem dX5_applied_2 : decode cX5_applied 2 = .ok (.invokevirtual 195, 3) := by decide +kernel
set_option maxRecDepth 100000 in
theorem dX5_applied_5 : decode cX5_applied 5 = .ok (.astore_n 2, 1) := by decide +kernel
set_option maxRecDepth 100000 in
theorem dX5_applied_6 : decode cX5_applied 6 = .ok (.aload_n 2, 1) := by decide +kernel
set_option maxRecDepth 100000 in
theorem dX5_applied_7 : decode cX5_applied 7 = .ok (.getfield 199, 3) := by decide +kernel
set_option maxRecDepth 100000 in
theorem dX5_applied_10 : decode cX5_applied 10 = .ok (.iconst 3, 1) := by decide +kernel
set_option maxRecDepth 100000 in
theorem dX5_applied_11 : decode cX5_applied 11 = .ok (.if_icmp .ne 13, 3) := by decide +kernel
set_option maxRecDepth 100000 in
theorem dX5_applied_14 : decode cX5_applied 14 = .ok (.aload_n 2, 1) := by decide +kernel
set_option maxRecDepth 100000 in
theorem dX5_applied_15 : decode cX5_applied 15 = .ok (.getfield 492, 3) := by decide +kernel
set_option maxRecDepth 100000 in
theorem dX5_applied_18 : decode cX5_applied 18 = .ok (.getfield 525, 3) := by decide +kernel
set_option maxRecDepth 100000 in
theorem dX5_applied_21 : decode cX5_applied 21 = .ok (.ifCond .ne 31, 3) := by decide +kernel
set_option maxRecDepth 100000 in
theorem dX5_applied_24 : decode cX5_applied 24 = .ok (.aload_n 2, 1) := by decide +kernel
set_option maxRecDepth 100000 in
theorem dX5_applied_25 : decode cX5_applied 25 = .ok (.getfield 199, 3) := by decide +kernel
set_option maxRecDepth 100000 in
theorem dX5_applied_28 : decode cX5_applied 28 = .ok (.iconst 4, 1) := by decide +kernel
set_option maxRecDepth 100000 in
theorem dX5_applied_29 : decode cX5_applied 29 = .ok (.if_icmp .ne 12, 3) := by decide +kernel
set_option maxRecDepth 100000 in
theorem dX5_applied_32 : decode cX5_applied 32 = .ok (.aload_n 2, 1) := by decide +kernel
set_option maxRecDepth 100000 in
theorem dX5_applied_33 : decode cX5_applied 33 = .ok (.getfield 112, 3) := by decide +kernel
set_option maxRecDepth 100000 in
theorem dX5_applied_36 : decode cX5_applied 36 = .ok (.bipush 9, 2) := by decide +kernel
set_option maxRecDepth 100000 in
theorem dX5_applied_38 : decode cX5_applied 38 = .ok (.if_icmp .gt 14, 3) := by decide +kernel
set_option maxRecDepth 100000 in
theorem dX5_applied_41 : decode cX5_applied 41 = .ok (.aload_n 0, 1) := by decide +kernel
set_option maxRecDepth 100000 in
theorem dX5_applied_42 : decode cX5_applied 42 = .ok (.bipush 6, 2) := by decide +kernel
set_option maxRecDepth 100000 in
theorem dX5_applied_44 : decode cX5_applied 44 = .ok (.aload_n 1, 1) := by decide +kernel
set_option maxRecDepth 100000 in
theorem dX5_applied_45 : decode cX5_applied 45 = .ok (.invokevirtual 192, 3) := by decide +kernel
set_option maxRecDepth 100000 in
theorem dX5_applied_48 : decode cX5_applied 48 = .ok (.invokevirtual 163, 3) := by decide +kernel
set_option maxRecDepth 100000 in
theorem dX5_applied_51 : decode cX5_applied 51 = .ok (.athrow, 1) := by decide +kernel
set_option maxRecDepth 100000 in
theorem dX5_applied_52 : decode cX5_applied 52 = .ok (.aload_n 0, 1) := by decide +kernel
set_option maxRecDepth 100000 in
theorem dX5_applied_53 : decode cX5_applied 53 = .ok (.aload_n 2, 1) := by decide +kernel
set_option maxRecDepth 100000 in
theorem dX5_applied_54 : decode cX5_applied 54 = .ok (.aload_n 1, 1) := by decide +kernel
set_option maxRecDepth 100000 in
theorem dX5_applied_55 : decode cX5_applied 55 = .ok (.getfield 251, 3) := by decide +kernel
set_option maxRecDepth 100000 in
theorem dX5_applied_58 : decode cX5_applied 58 = .ok (.aload_n 1, 1) := by decide +kernel
set_option maxRecDepth 100000 in
theorem dX5_applied_59 : decode cX5_applied 59 = .ok (.getfield 293, 3) := by decide +kernel
set_option maxRecDepth 100000 in
theorem dX5_applied_62 : decode cX5_applied 62 = .ok (.aload_n 1, 1) := by decide +kernel
set_option maxRecDepth 100000 in
theorem dX5_applied_63 : decode cX5_applied 63 = .ok (.invokevirtual 192, 3) := by decide +kernel
set_option maxRecDepth 100000 in
theorem dX5_applied_66 : decode cX5_applied 66 = .ok (.invokevirtual 820, 3) := by decide +kernel
set_option maxRecDepth 100000 in
theorem dX5_applied_69 : decode cX5_applied 69 = .ok (.areturn, 1) := by decide +kernel
set_option maxRecDepth 100000 in
def bX5_applied_52 (G : xG) (fr lo : Nat) (x0 : Nat) (x1 : Nat) (x2 : Nat) (h : xH) (Q : Outcome → xH → Prop) : Prop := tg h x1 = 16 ∧ 1 ≤ fr ∧ 16 ≤ lo ∧ xRi G YX15_place (fr - 1) (lo - 16) [rv x1] h (fun x5 h4 => xext h h4 → tg h4 x0 = 6 ∧ 1 ≤ fr ∧ 20 ≤ lo ∧ xRr G YX5_function (fr - 1) (lo - 20) [rv x0, rv x2, rv (fR h x1 3842), .int (fI h x1 3845), .int x5] h4 (fun x11 h10 => xext h4 h10 → Q (.returned (some (rv x11))) h10) (fun r h2 => Q (.threw r) h2)) (fun r h2 => Q (.threw r) h2)
set_option maxRecDepth 100000 in
theorem uX5_applied_52 {G : xG} {fr lo : Nat} {x0 : Nat} {x1 : Nat} {x2 : Nat} {h : xH} {Q : Outcome → xH → Prop} (hq : bX5_applied_52 G fr lo x0 x1 x2 h Q) : xP G YX5_applied fr lo 52 [(0, rv x0), (1, rv x1), (2, rv x2)] [] h Q := by
  unfold bX5_applied_52 at hq
  refine x_aload_n 0 dX5_applied_52 rfl ?_
  refine x_aload_n 2 dX5_applied_53 rfl ?_
  refine x_aload_n 1 dX5_applied_54 rfl ?_
  obtain ⟨g1, hq⟩ := hq
  refine x_getN (v := rv (fR h x1 3842)) gfX5_251 dX5_applied_55 g1 rfl ?_
  refine x_aload_n 1 dX5_applied_58 rfl ?_
  refine x_getN (v := .int (fI h x1 3845)) gfX5_293 dX5_applied_59 g1 rfl ?_
  refine x_aload_n 1 dX5_applied_62 rfl ?_
  obtain ⟨g2, g3, hq⟩ := hq
  refine x_callV (Yc := YX15_place) (as := []) (st := [.int (fI h x1 3845), rv (fR h x1 3842), rv x2, rv x0]) q2013 mvX15_place g1 rfl dX5_applied_63 (xle (xal1 (rv_cat _) xal0) (by decide)) (xfr g2) (xlo (xsw1 rfl (xsw1 (rv_cat _) (xsw1 (rv_cat _) (xsw1 (rv_cat _) xsw0)))) (by decide) g3) (xKi hq (fun x5 h4 hq e6 => ?_) (fun _ _ q _ => q))
  replace hq := hq e6
  obtain ⟨g7, hq⟩ := hq
  obtain ⟨g8, g9, hq⟩ := hq
  refine x_callV (Yc := YX5_function) (as := [rv x2, rv (fR h x1 3842), .int (fI h x1 3845), .int x5]) (st := []) q2553 mvX5_function g7 rfl dX5_applied_66 (xle (xal1 (rv_cat _) (xal1 (rv_cat _) (xal1 (rv_cat _) (xal1 rfl (xal1 rfl xal0))))) (by decide)) (xfr g8) (xlo xsw0 (by decide) g9) (xKr hq (fun x11 h10 hq e12 => ?_) (fun _ _ q _ => q))
  replace hq := hq e12
  exact x_aret rfl xty_O dX5_applied_69 hq
set_option maxRecDepth 100000 in
def bX5_applied_41 (G : xG) (fr lo : Nat) (x0 : Nat) (x1 : Nat) (h : xH) (Q : Outcome → xH → Prop) : Prop := tg h x1 = 16 ∧ 1 ≤ fr ∧ 14 ≤ lo ∧ xRi G YX15_place (fr - 1) (lo - 14) [rv x1] h (fun x5 h4 => xext h h4 → tg h4 x0 = 6 ∧ 1 ≤ fr ∧ 14 ≤ lo ∧ xRr G YX5_fault (fr - 1) (lo - 14) [rv x0, .int 6, .int x5] h4 (fun x11 h10 => xext h4 h10 → (∃ r13, x11 = r13 + 1 ∧ Q (.threw r13) h10)) (fun r h2 => Q (.threw r) h2)) (fun r h2 => Q (.threw r) h2)
set_option maxRecDepth 100000 in
theorem uX5_applied_41 {G : xG} {fr lo : Nat} {x0 : Nat} {x1 : Nat} {h : xH} {Q : Outcome → xH → Prop} (hq : bX5_applied_41 G fr lo x0 x1 h Q) : xP G YX5_applied fr lo 41 [(0, rv x0), (1, rv x1)] [] h Q := by
  unfold bX5_applied_41 at hq
  refine x_aload_n 0 dX5_applied_41 rfl ?_
  refine x_bipush (v := 6) dX5_applied_42 (by decide) ?_
  refine x_aload_n 1 dX5_applied_44 rfl ?_
  obtain ⟨g1, hq⟩ := hq
  obtain ⟨g2, g3, hq⟩ := hq
  refine x_callV (Yc := YX15_place) (as := []) (st := [.int 6, rv x0]) q2013 mvX15_place g1 rfl dX5_applied_45 (xle (xal1 (rv_cat _) xal0) (by decide)) (xfr g2) (xlo (xsw1 rfl (xsw1 (rv_cat _) xsw0)) (by decide) g3) (xKi hq (fun x5 h4 hq e6 => ?_) (fun _ _ q _ => q))
  replace hq := hq e6
  obtain ⟨g7, hq⟩ := hq
  obtain ⟨g8, g9, hq⟩ := hq
  refine x_callV (Yc := YX5_fault) (as := [.int 6, .int x5]) (st := []) q2087 mvX5_fault g7 rfl dX5_applied_48 (xle (xal1 (rv_cat _) (xal1 rfl (xal1 rfl xal0))) (by decide)) (xfr g8) (xlo xsw0 (by decide) g9) (xKr hq (fun x11 h10 hq e12 => ?_) (fun _ _ q _ => q))
  replace hq := hq e12
  obtain ⟨r13, g14, hq⟩ := hq
  rw [g14]
  exact x_athrow dX5_applied_51 hq
set_option maxRecDepth 100000 in
def bX5_applied_24 (G : xG) (fr lo : Nat) (x0 : Nat) (x1 : Nat) (x2 : Nat) (h : xH) (Q : Outcome → xH → Prop) : Prop := tg h x2 = 9 ∧ ((¬ (fI h x2 2048) = 4 → bX5_applied_41 G fr lo x0 x1 h Q) ∧ ((fI h x2 2048) = 4 → ((9 < (fI h x2 2051) → bX5_applied_52 G fr lo x0 x1 x2 h Q) ∧ (¬ 9 < (fI h x2 2051) → bX5_applied_41 G fr lo x0 x1 h Q))))
set_option maxRecDepth 100000 in
theorem uX5_applied_24 {G : xG} {fr lo : Nat} {x0 : Nat} {x1 : Nat} {x2 : Nat} {h : xH} {Q : Outcome → xH → Prop} (hq : bX5_applied_24 G fr lo x0 x1 x2 h Q) : xP G YX5_applied fr lo 24 [(0, rv x0), (1, rv x1), (2, rv x2)] [] h Q := by
  unfold bX5_applied_24 at hq
  refine x_aload_n 2 dX5_applied_24 rfl ?_
  obtain ⟨g1, hq⟩ := hq
  refine x_getN (v := .int (fI h x2 2048)) gfX5_199 dX5_applied_25 g1 rfl ?_
  refine x_iconst (v := 4) dX5_applied_28 (by decide) ?_
  refine x_icmp_ne (tgt := 41) dX5_applied_29 (by decide) (fun c2 => ?_) (fun c2 => ?_)
  · replace hq := hq.1 c2
    refine xP.pick (lv' := [(0, rv x0), (1, rv x1)]) [0, 1] rfl ?_
    exact uX5_applied_41 hq
  · replace hq := hq.2 c2
    refine x_aload_n 2 dX5_applied_32 rfl ?_
    refine x_getN (v := .int (fI h x2 2051)) gfX5_112 dX5_applied_33 g1 rfl ?_
    refine x_bipush (v := 9) dX5_applied_36 (by decide) ?_
    refine x_icmp_gt (tgt := 52) dX5_applied_38 (by decide) (fun c3 => ?_) (fun c3 => ?_)
    · replace hq := hq.1 c3
      exact uX5_applied_52 hq
    · replace hq := hq.2 c3
      refine xP.pick (lv' := [(0, rv x0), (1, rv x1)]) [0, 1] rfl ?_
      exact uX5_applied_41 hq
set_option maxRecDepth 100000 in
def bX5_applied (G : xG) (fr lo : Nat) (x0 : Nat) (x1 : Nat) (h : xH) (Q : Outcome → xH → Prop) : Prop := tg h x0 = 6 ∧ 1 ≤ fr ∧ 15 ≤ lo ∧ xRr G YX5_find (fr - 1) (lo - 15) [rv x0, rv x1] h (fun x5 h4 => xext h h4 → tg h4 x5 = 9 ∧ ((¬ (fI h4 x5 2048) = 3 → bX5_applied_24 G fr lo x0 x1 x5 h4 Q) ∧ ((fI h4 x5 2048) = 3 → tg h4 (fR h4 x5 2059) = 17 ∧ ((¬ (fI h4 (fR h4 x5 2059) 4097) = 0 → bX5_applied_52 G fr lo x0 x1 x5 h4 Q) ∧ ((fI h4 (fR h4 x5 2059) 4097) = 0 → bX5_applied_24 G fr lo x0 x1 x5 h4 Q))))) (fun r h2 => Q (.threw r) h2)
set_option maxRecDepth 100000 in
theorem uX5_applied {G : xG} {fr lo : Nat} {x0 : Nat} {x1 : Nat} {h : xH} {Q : Outcome → xH → Prop} (hq : bX5_applied G fr lo x0 x1 h Q) : xP G YX5_applied fr lo 0 [(0, rv x0), (1, rv x1)] [] h Q := by
  unfold bX5_applied at hq
  refine x_aload_n 0 dX5_applied_0 rfl ?_
  refine x_aload_n 1 dX5_applied_1 rfl ?_
  obtain ⟨g1, hq⟩ := hq
  obtain ⟨g2, g3, hq⟩ := hq
  refine x_callV (Yc := YX5_find) (as := [rv x1]) (st := []) q2246 mvX5_find g1 rfl dX5_applied_2 (xle (xal1 (rv_cat _) (xal1 (rv_cat _) xal0)) (by decide)) (xfr g2) (xlo xsw0 (by decide) g3) (xKr hq (fun x5 h4 hq e6 => ?_) (fun _ _ q _ => q))
  replace hq := hq e6
  refine x_astore_n (lv' := [(2, rv x5), (0, rv x0), (1, rv x1)]) dX5_applied_5 (by decide) (by first | rfl | (simp [rv_cat, Value.category]; done) | (simp [rv_cat, Value.category]; decide)) ?_
  refine x_aload_n 0 dX5_applied_6 rfl ?_
  obtain ⟨g7, hq⟩ := hq
  refine x_getN (v := .int (fI h4 x5 2048)) gfX5_199 dX5_applied_7 g7 rfl ?_
  refine x_iconst (v := 3) dX5_applied_10 (by decide) ?_
  refine x_icmp_ne (tgt := 24) dX5_applied_11 (by decide) (fun c8 => ?_) (fun c8 => ?_)
  · replace hq := hq.1 c8
    refine xP.pick (lv' := [(0, rv x0), (1, rv x1), (2, rv x5)]) [1, 2, 0] rfl ?_
    exact uX5_applied_24 hq
  · replace hq := hq.2 c8
    refine x_aload_n 0 dX5_applied_14 rfl ?_
    refine x_getN (v := rv (fR h4 x5 2059)) gfX5_492 dX5_applied_15 g7 rfl ?_
    obtain ⟨g9, hq⟩ := hq
    refine x_getN (v := .int (fI h4 (fR h4 x5 2059) 4097)) gfX5_525 dX5_applied_18 g9 rfl ?_
    refine x_if_ne (tgt := 52) dX5_applied_21 (by decide) (fun c10 => ?_) (fun c10 => ?_)
    · replace hq := hq.1 c10
      refine xP.pick (lv' := [(0, rv x0), (1, rv x1), (2, rv x5)]) [1, 2, 0] rfl ?_
      exact uX5_applied_52 hq
    · replace hq := hq.2 c10
      refine xP.pick (lv' := [(0, rv x0), (1, rv x1), (2, rv x5)]) [1, 2, 0] rfl ?_
      exact uX5_applied_24 hq
theorem rX5_applied {G : xG} {fr lo : Nat} {x0 : Nat} {x1 : Nat} {h : xH} {Q : Outcome → xH → Prop} (hq : bX5_applied G fr lo x0 x1 h Q) : xR G YX5_applied fr lo [rv x0, rv x1] h Q := by
  show xP _ _ _ _ _ (lv_args 0 _) _ _ _
  rw [show lv_args 0 [rv x0, rv x1] = [(0, rv x0), (1, rv x1)] from (xla1 (rv_cat _) (xla1 (rv_cat _) xla0))]
  exact uX5_applied hq
