/-! PascalHouse$Machine, walked (4) -/
set_option maxRecDepth 100000 in
theorem dX9_pushReal_0 : decode cX9_pushReal 0 = .ok (.iconst 0, 1) := by decide +kernel
set_option maxRecDepth 100000 in
theorem dX9_pushReal_1 : decode cX9_pushReal 1 = .ok (.istore 8, 2) := by decide +kernel
set_option maxRecDepth 100000 in
theorem dX9_pushReal_3 : decode cX9_pushReal 3 = .ok (.iconst 0, 1) := by decide +kernel
set_option maxRecDepth 100000 in
theorem dX9_pushReal_4 : decode cX9_pushReal 4 = .ok (.istore 9, 2) := by decide +kernel
set_option maxRecDepth 100000 in
theorem dX9_pushReal_6 : decode cX9_pushReal 6 = .ok (.aload_n 0, 1) := by decide +kernel
set_option maxRecDepth 100000 in
theorem dX9_pushReal_7 : decode cX9_pushReal 7 = .ok (.getfield 23, 3) := by decide +kernel
set_option maxRecDepth 100000 in
theorem dX9_pushReal_10 : decode cX9_pushReal 10 = .ok (.iload_n 1, 1) := by decide +kernel
set_option maxRecDepth 100000 in
theorem dX9_pushReal_11 : decode cX9_pushReal 11 = .ok (.iconst 1, 1) := by decide +kernel
set_option maxRecDepth 100000 in
theorem dX9_pushReal_12 : decode cX9_pushReal 12 = .ok (.invokevirtual 469, 3) := by decide +kernel
set_option maxRecDepth 100000 in
theorem dX9_pushReal_15 : decode cX9_pushReal 15 = .ok (.istore 10, 2) := by decide +kernel
set_option maxRecDepth 100000 in
theorem dX9_pushReal_17 : decode cX9_pushReal 17 = .ok (.iload 10, 2) := by decide +kernel
set_option maxRecDepth 100000 in
theorem dX9_pushReal_19 : decode cX9_pushReal 19 = .ok (.bipush 43, 2) := by decide +kernel
set_option maxRecDepth 100000 in
theorem dX9_pushReal_21 : decode cX9_pushReal 21 = .ok (.if_icmp .eq 10, 3) := by decide +kernel
set_option maxRecDepth 100000 in
theorem dX9_pushReal_24 : decode cX9_pushReal 24 = .ok (.iload 10, 2) := by decide +kernel
set_option maxRecDepth 100000 in
theorem dX9_pushReal_26 : decode cX9_pushReal 26 = .ok (.bipush 45, 2) := by decide +kernel
set_option maxRecDepth 100000 in
theorem dX9_pushReal_28 : decode cX9_pushReal 28 = .ok (.if_icmp .ne 7, 3) := by decide +kernel
set_option maxRecDepth 100000 in
theorem dX9_pushReal_31 : decode cX9_pushReal 31 = .ok (.iconst 1, 1) := by decide +kernel
set_option maxRecDepth 100000 in
theorem dX9_pushReal_32 : decode cX9_pushReal 32 = .ok (.goto 4, 3) := by decide +kernel
set_option maxRecDepth 100000 in
theorem dX9_pushReal_35 : decode cX9_pushReal 35 = .ok (.iconst 0, 1) := by decide +kernel
set_option maxRecDepth 100000 in
theorem dX9_pushReal_36 : decode cX9_pushReal 36 = .ok (.istore 11, 2) := by decide +kernel
set_option maxRecDepth 100000 in
theorem dX9_pushReal_38 : decode cX9_pushReal 38 = .ok (.iload 4, 2) := by decide +kernel
set_option maxRecDepth 100000 in
theorem dX9_pushReal_40 : decode cX9_pushReal 40 = .ok (.ifCond .le 57, 3) := by decide +kernel
set_option maxRecDepth 100000 in
theorem dX9_pushReal_43 : decode cX9_pushReal 43 = .ok (.aload_n 0, 1) := by decide +kernel
set_option maxRecDepth 100000 in
theorem dX9_pushReal_44 : decode cX9_pushReal 44 = .ok (.getfield 23, 3) := by decide +kernel
set_option maxRecDepth 100000 in
theorem dX9_pushReal_47 : decode cX9_pushReal 47 = .ok (.iload_n 1, 1) := by decide +kernel
set_option maxRecDepth 100000 in
theorem dX9_pushReal_48 : decode cX9_pushReal 48 = .ok (.invokevirtual 457, 3) := by decide +kernel
set_option maxRecDepth 100000 in
theorem dX9_pushReal_51 : decode cX9_pushReal 51 = .ok (.bipush 101, 2) := by decide +kernel
set_option maxRecDepth 100000 in
theorem dX9_pushReal_53 : decode cX9_pushReal 53 = .ok (.if_icmp .eq 16, 3) := by decide +kernel
set_option maxRecDepth 100000 in
theorem dX9_pushReal_56 : decode cX9_pushReal 56 = .ok (.aload_n 0, 1) := by decide +kernel
set_option maxRecDepth 100000 in
theorem dX9_pushReal_57 : decode cX9_pushReal 57 = .ok (.getfield 23, 3) := by decide +kernel
set_option maxRecDepth 100000 in
theorem dX9_pushReal_60 : decode cX9_pushReal 60 = .ok (.iload_n 1, 1) := by decide +kernel
set_option maxRecDepth 100000 in
theorem dX9_pushReal_61 : decode cX9_pushReal 61 = .ok (.invokevirtual 457, 3) := by decide +kernel
set_option maxRecDepth 100000 in
theorem dX9_pushReal_64 : decode cX9_pushReal 64 = .ok (.bipush 69, 2) := by decide +kernel
set_option maxRecDepth 100000 in
theorem dX9_pushReal_66 : decode cX9_pushReal 66 = .ok (.if_icmp .ne 31, 3) := by decide +kernel
set_option maxRecDepth 100000 in
theorem dX9_pushReal_69 : decode cX9_pushReal 69 = .ok (.aload_n 0, 1) := by decide +kernel
set_option maxRecDepth 100000 in
theorem dX9_pushReal_70 : decode cX9_pushReal 70 = .ok (.getfield 23, 3) := by decide +kernel
set_option maxRecDepth 100000 in
theorem dX9_pushReal_73 : decode cX9_pushReal 73 = .ok (.iload_n 1, 1) := by decide +kernel
set_option maxRecDepth 100000 in
theorem dX9_pushReal_74 : decode cX9_pushReal 74 = .ok (.iload 11, 2) := by decide +kernel
set_option maxRecDepth 100000 in
theorem dX9_pushReal_76 : decode cX9_pushReal 76 = .ok (.ifCond .eq 7, 3) := by decide +kernel
set_option maxRecDepth 100000 in
theorem dX9_pushReal_79 : decode cX9_pushReal 79 = .ok (.iconst 2, 1) := by decide +kernel
set_option maxRecDepth 100000 in
theorem dX9_pushReal_80 : decode cX9_pushReal 80 = .ok (.goto 4, 3) := by decide +kernel
set_option maxRecDepth 100000 in
theorem dX9_pushReal_83 : decode cX9_pushReal 83 = .ok (.iconst 1, 1) := by decide +kernel
set_option maxRecDepth 100000 in
theorem dX9_pushReal_84 : decode cX9_pushReal 84 = .ok (.invokevirtual 469, 3) := by decide +kernel
set_option maxRecDepth 100000 in
theorem dX9_pushReal_87 : decode cX9_pushReal 87 = .ok (.invokestatic 473, 3) := by decide +kernel
set_option maxRecDepth 100000 in
theorem dX9_pushReal_90 : decode cX9_pushReal 90 = .ok (.ifCond .eq 7, 3) := by decide +kernel
set_option maxRecDepth 100000 in
theorem dX9_pushReal_93 : decode cX9_pushReal 93 = .ok (.iconst 1, 1) := by decide +kernel
set_option maxRecDepth 100000 in
theorem dX9_pushReal_94 : decode cX9_pushReal 94 = .ok (.goto 4, 3) := by decide +kernel
set_option maxRecDepth 100000 in
theorem dX9_pushReal_97 : decode cX9_pushReal 97 = .ok (.iconst 0, 1) := by decide +kernel
set_option maxRecDepth 100000 in
theorem dX9_pushReal_98 : decode cX9_pushReal 98 = .ok (.istore 12, 2) := by decide +kernel
set_option maxRecDepth 100000 in
theorem dX9_pushReal_100 : decode cX9_pushReal 100 = .ok (.iload 12, 2) := by decide +kernel
set_option maxRecDepth 100000 in
theorem dX9_pushReal_102 : decode cX9_pushReal 102 = .ok (.ifCond .eq 83, 3) := by decide +kernel
set_option maxRecDepth 100000 in
theorem dX9_pushReal_105 : decode cX9_pushReal 105 = .ok (.aload_n 0, 1) := by decide +kernel
set_option maxRecDepth 100000 in
theorem dX9_pushReal_106 : decode cX9_pushReal 106 = .ok (.getfield 23, 3) := by decide +kernel
set_option maxRecDepth 100000 in
theorem dX9_pushReal_109 : decode cX9_pushReal 109 = .ok (.iload_n 1, 1) := by decide +kernel
set_option maxRecDepth 100000 in
theorem dX9_pushReal_110 : decode cX9_pushReal 110 = .ok (.invokevirtual 444, 3) := by decide +kernel
set_option maxRecDepth 100000 in
theorem dX9_pushReal_113 : decode cX9_pushReal 113 = .ok (.iload 11, 2) := by decide +kernel
set_option maxRecDepth 100000 in
theorem dX9_pushReal_115 : decode cX9_pushReal 115 = .ok (.ifCond .eq 11, 3) := by decide +kernel
set_option maxRecDepth 100000 in
theorem dX9_pushReal_118 : decode cX9_pushReal 118 = .ok (.aload_n 0, 1) := by decide +kernel
set_option maxRecDepth 100000 in
theorem dX9_pushReal_119 : decode cX9_pushReal 119 = .ok (.getfield 23, 3) := by decide +kernel
set_option maxRecDepth 100000 in
theorem dX9_pushReal_122 : decode cX9_pushReal 122 = .ok (.iload_n 1, 1) := by decide +kernel
set_option maxRecDepth 100000 in
theorem dX9_pushReal_123 : decode cX9_pushReal 123 = .ok (.invokevirtual 444, 3) := by decide +kernel
set_option maxRecDepth 100000 in
theorem dX9_pushReal_126 : decode cX9_pushReal 126 = .ok (.aload_n 0, 1) := by decide +kernel
set_option maxRecDepth 100000 in
theorem dX9_pushReal_127 : decode cX9_pushReal 127 = .ok (.getfield 23, 3) := by decide +kernel
set_option maxRecDepth 100000 in
theorem dX9_pushReal_130 : decode cX9_pushReal 130 = .ok (.iload_n 1, 1) := by decide +kernel
set_option maxRecDepth 100000 in
theorem dX9_pushReal_131 : decode cX9_pushReal 131 = .ok (.invokevirtual 457, 3) := by decide +kernel
set_option maxRecDepth 100000 in
theorem dX9_pushReal_134 : decode cX9_pushReal 134 = .ok (.invokestatic 473, 3) := by decide +kernel
set_option maxRecDepth 100000 in
theorem dX9_pushReal_137 : decode cX9_pushReal 137 = .ok (.ifCond .eq 48, 3) := by decide +kernel
set_option maxRecDepth 100000 in
theorem dX9_pushReal_140 : decode cX9_pushReal 140 = .ok (.iload 8, 2) := by decide +kernel
set_option maxRecDepth 100000 in
theorem dX9_pushReal_142 : decode cX9_pushReal 142 = .ok (.bipush 100, 2) := by decide +kernel
set_option maxRecDepth 100000 in
theorem dX9_pushReal_144 : decode cX9_pushReal 144 = .ok (.if_icmp .ge 23, 3) := by decide +kernel
set_option maxRecDepth 100000 in
theorem dX9_pushReal_147 : decode cX9_pushReal 147 = .ok (.bipush 10, 2) := by decide +kernel
set_option maxRecDepth 100000 in
theorem dX9_pushReal_149 : decode cX9_pushReal 149 = .ok (.iload 8, 2) := by decide +kernel
set_option maxRecDepth 100000 in
theorem dX9_pushReal_151 : decode cX9_pushReal 151 = .ok (.imul, 1) := by decide +kernel
set_option maxRecDepth 100000 in
theorem dX9_pushReal_152 : decode cX9_pushReal 152 = .ok (.aload_n 0, 1) := by decide +kernel
set_option maxRecDepth 100000 in
theorem dX9_pushReal_153 : decode cX9_pushReal 153 = .ok (.getfield 23, 3) := by decide +kernel
set_option maxRecDepth 100000 in
theorem dX9_pushReal_156 : decode cX9_pushReal 156 = .ok (.iload_n 1, 1) := by decide +kernel
set_option maxRecDepth 100000 in
theorem dX9_pushReal_157 : decode cX9_pushReal 157 = .ok (.invokevirtual 457, 3) := by decide +kernel
set_option maxRecDepth 100000 in
theorem dX9_pushReal_160 : decode cX9_pushReal 160 = .ok (.iadd, 1) := by decide +kernel
set_option maxRecDepth 100000 in
theorem dX9_pushReal_161 : decode cX9_pushReal 161 = .ok (.bipush 48, 2) := by decide +kernel
set_option maxRecDepth 100000 in
theorem dX9_pushReal_163 : decode cX9_pushReal 163 = .ok (.isub, 1) := by decide +kernel
set_option maxRecDepth 100000 in
theorem dX9_pushReal_164 : decode cX9_pushReal 164 = .ok (.goto 5, 3) := by decide +kernel
set_option maxRecDepth 100000 in
theorem dX9_pushReal_167 : decode cX9_pushReal 167 = .ok (.iload 8, 2) := by decide +kernel
set_option maxRecDepth 100000 in
theorem dX9_pushReal_169 : decode cX9_pushReal 169 = .ok (.istore 8, 2) := by decide +kernel
set_option maxRecDepth 100000 in
theorem dX9_pushReal_171 : decode cX9_pushReal 171 = .ok (.iinc 9 1, 3) := by decide +kernel
set_option maxRecDepth 100000 in
theorem dX9_pushReal_174 : decode cX9_pushReal 174 = .ok (.aload_n 0, 1) := by decide +kernel
set_option maxRecDepth 100000 in
theorem dX9_pushReal_175 : decode cX9_pushReal 175 = .ok (.getfield 23, 3) := by decide +kernel
set_option maxRecDepth 100000 in
theorem dX9_pushReal_178 : decode cX9_pushReal 178 = .ok (.iload_n 1, 1) := by decide +kernel
set_option maxRecDepth 100000 in
theorem dX9_pushReal_179 : decode cX9_pushReal 179 = .ok (.invokevirtual 444, 3) := by decide +kernel
set_option maxRecDepth 100000 in
theorem dX9_pushReal_182 : decode cX9_pushReal 182 = .ok (.goto (-56), 3) := by decide +kernel
set_option maxRecDepth 100000 in
theorem dX9_pushReal_185 : decode cX9_pushReal 185 = .ok (.iload 4, 2) := by decide +kernel
set_option maxRecDepth 100000 in
theorem dX9_pushReal_187 : decode cX9_pushReal 187 = .ok (.bipush 15, 2) := by decide +kernel
set_option maxRecDepth 100000 in
theorem dX9_pushReal_189 : decode cX9_pushReal 189 = .ok (.if_icmp .gt 9, 3) := by decide +kernel
set_option maxRecDepth 100000 in
theorem dX9_pushReal_192 : decode cX9_pushReal 192 = .ok (.iload 9, 2) := by decide +kernel
set_option maxRecDepth 100000 in
theorem dX9_pushReal_194 : decode cX9_pushReal 194 = .ok (.iconst 2, 1) := by decide +kernel
set_option maxRecDepth 100000 in
theorem dX9_pushReal_195 : decode cX9_pushReal 195 = .ok (.if_icmp .le 7, 3) := by decide +kernel
set_option maxRecDepth 100000 in
theorem dX9_pushReal_198 : decode cX9_pushReal 198 = .ok (.iconst 1, 1) := by decide +kernel
set_option maxRecDepth 100000 in
theorem dX9_pushReal_199 : decode cX9_pushReal 199 = .ok (.goto 4, 3) := by decide +kernel
set_option maxRecDepth 100000 in
theorem dX9_pushReal_202 : decode cX9_pushReal 202 = .ok (.iconst 0, 1) := by decide +kernel
set_option maxRecDepth 100000 in
theorem dX9_pushReal_203 : decode cX9_pushReal 203 = .ok (.istore 13, 2) := by decide +kernel
set_option maxRecDepth 100000 in
theorem dX9_pushReal_205 : decode cX9_pushReal 205 = .ok (.iload 13, 2) := by decide +kernel
set_option maxRecDepth 100000 in
theorem dX9_pushReal_207 : decode cX9_pushReal 207 = .ok (.ifCond .eq 7, 3) := by decide +kernel
set_option maxRecDepth 100000 in
theorem dX9_pushReal_210 : decode cX9_pushReal 210 = .ok (.dconst 0, 1) := by decide +kernel
set_option maxRecDepth 100000 in
theorem dX9_pushReal_211 : decode cX9_pushReal 211 = .ok (.goto 29, 3) := by decide +kernel
set_option maxRecDepth 100000 in
theorem dX9_pushReal_214 : decode cX9_pushReal 214 = .ok (.lload_n 2, 1) := by decide +kernel
set_option maxRecDepth 100000 in
theorem dX9_pushReal_215 : decode cX9_pushReal 215 = .ok (.iload 5, 2) := by decide +kernel
set_option maxRecDepth 100000 in
theorem dX9_pushReal_217 : decode cX9_pushReal 217 = .ok (.iload 12, 2) := by decide +kernel
set_option maxRecDepth 100000 in
theorem dX9_pushReal_219 : decode cX9_pushReal 219 = .ok (.ifCond .eq 16, 3) := by decide +kernel
set_option maxRecDepth 100000 in
theorem dX9_pushReal_222 : decode cX9_pushReal 222 = .ok (.iload 10, 2) := by decide +kernel
set_option maxRecDepth 100000 in
theorem dX9_pushReal_224 : decode cX9_pushReal 224 = .ok (.bipush 45, 2) := by decide +kernel
set_option maxRecDepth 100000 in
theorem dX9_pushReal_226 : decode cX9_pushReal 226 = .ok (.if_icmp .ne 9, 3) := by decide +kernel
set_option maxRecDepth 100000 in
theorem dX9_pushReal_229 : decode cX9_pushReal 229 = .ok (.iload 8, 2) := by decide +kernel
set_option maxRecDepth 100000 in
theorem dX9_pushReal_231 : decode cX9_pushReal 231 = .ok (.ineg, 1) := by decide +kernel
set_option maxRecDepth 100000 in
theorem dX9_pushReal_232 : decode cX9_pushReal 232 = .ok (.goto 5, 3) := by decide +kernel
set_option maxRecDepth 100000 in
theorem dX9_pushReal_235 : decode cX9_pushReal 235 = .ok (.iload 8, 2) := by decide +kernel
set_option maxRecDepth 100000 in
theorem dX9_pushReal_237 : decode cX9_pushReal 237 = .ok (.invokestatic 487, 3) := by decide +kernel
set_option maxRecDepth 100000 in
theorem dX9_pushReal_240 : decode cX9_pushReal 240 = .ok (.dstore 14, 2) := by decide +kernel
set_option maxRecDepth 100000 in
theorem dX9_pushReal_242 : decode cX9_pushReal 242 = .ok (.iload 13, 2) := by decide +kernel
set_option maxRecDepth 100000 in
theorem dX9_pushReal_244 : decode cX9_pushReal 244 = .ok (.ifCond .ne 11, 3) := by decide +kernel
set_option maxRecDepth 100000 in
theorem dX9_pushReal_247 : decode cX9_pushReal 247 = .ok (.dload 14, 2) := by decide +kernel
set_option maxRecDepth 100000 in
theorem dX9_pushReal_249 : decode cX9_pushReal 249 = .ok (.invokestatic 286, 3) := by decide +kernel
set_option maxRecDepth 100000 in
theorem dX9_pushReal_252 : decode cX9_pushReal 252 = .ok (.ifCond .ne 11, 3) := by decide +kernel
set_option maxRecDepth 100000 in
theorem dX9_pushReal_255 : decode cX9_pushReal 255 = .ok (.aload_n 0, 1) := by decide +kernel
set_option maxRecDepth 100000 in
theorem dX9_pushReal_256 : decode cX9_pushReal 256 = .ok (.bipush 11, 2) := by decide +kernel
set_option maxRecDepth 100000 in
theorem dX9_pushReal_258 : decode cX9_pushReal 258 = .ok (.iload 7, 2) := by decide +kernel
set_option maxRecDepth 100000 in
theorem dX9_pushReal_260 : decode cX9_pushReal 260 = .ok (.invokevirtual 147, 3) := by decide +kernel
set_option maxRecDepth 100000 in
theorem dX9_pushReal_263 : decode cX9_pushReal 263 = .ok (.aload_n 0, 1) := by decide +kernel
set_option maxRecDepth 100000 in
theorem dX9_pushReal_264 : decode cX9_pushReal 264 = .ok (.getfield 35, 3) := by decide +kernel
set_option maxRecDepth 100000 in
theorem dX9_pushReal_267 : decode cX9_pushReal 267 = .ok (.aload_n 0, 1) := by decide +kernel
set_option maxRecDepth 100000 in
theorem dX9_pushReal_268 : decode cX9_pushReal 268 = .ok (.getfield 86, 3) := by decide +kernel
set_option maxRecDepth 100000 in
theorem dX9_pushReal_271 : decode cX9_pushReal 271 = .ok (.iload 6, 2) := by decide +kernel
set_option maxRecDepth 100000 in
theorem dX9_pushReal_273 : decode cX9_pushReal 273 = .ok (.ifCond .eq 9, 3) := by decide +kernel
set_option maxRecDepth 100000 in
theorem dX9_pushReal_276 : decode cX9_pushReal 276 = .ok (.dload 14, 2) := by decide +kernel
set_option maxRecDepth 100000 in
theorem dX9_pushReal_278 : decode cX9_pushReal 278 = .ok (.dneg, 1) := by decide +kernel
set_option maxRecDepth 100000 in
theorem dX9_pushReal_279 : decode cX9_pushReal 279 = .ok (.goto 5, 3) := by decide +kernel
set_option maxRecDepth 100000 in
theorem dX9_pushReal_282 : decode cX9_pushReal 282 = .ok (.dload 14, 2) := by decide +kernel
set_option maxRecDepth 100000 in
theorem dX9_pushReal_284 : decode cX9_pushReal 284 = .ok (.dastore, 1) := by decide +kernel
set_option maxRecDepth 100000 in
theorem dX9_pushReal_285 : decode cX9_pushReal 285 = .ok (.aload_n 0, 1) := by decide +kernel
set_option maxRecDepth 100000 in
theorem dX9_pushReal_286 : decode cX9_pushReal 286 = .ok (.dup, 1) := by decide +kernel
set_option maxRecDepth 100000 in
theorem dX9_pushReal_287 : decode cX9_pushReal 287 = .ok (.getfield 86, 3) := by decide +kernel
set_option maxRecDepth 100000 in
theorem dX9_pushReal_290 : decode cX9_pushReal 290 = .ok (.iconst 1, 1) := by decide +kernel
set_option maxRecDepth 100000 in
theorem dX9_pushReal_291 : decode cX9_pushReal 291 = .ok (.iadd, 1) := by decide +kernel
set_option maxRecDepth 100000 in
theorem dX9_pushReal_292 : decode cX9_pushReal 292 = .ok (.putfield 86, 3) := by decide +kernel
set_option maxRecDepth 100000 in
theorem dX9_pushReal_295 : decode cX9_pushReal 295 = .ok (.return_, 1) := by decide +kernel
def lX9_pushReal_126 (G : xG) (fr lo : Nat) (x0 : Nat) (x1 : Int32) (x2 : Int64) (x4 : Int32) (x5 : Int32) (x6 : Int32) (x7 : Int32) (x8 : Int32) (x9 : Int32) (x10 : Int32) (x12 : Int32) (h : xH) (Q : Outcome → xH → Prop) : Prop := xP G YX9_pushReal fr lo 126 [(0, rv x0), (1, .int x1), (2, .long x2), (4, .int x4), (5, .int x5), (6, .int x6), (7, .int x7), (8, .int x8), (9, .int x9), (10, .int x10), (12, .int x12)] [] h Q
set_option maxRecDepth 100000 in
def bX9_pushReal_284 (G : xG) (fr lo : Nat) (x0 : Nat) (s0 : UInt64) (s1 : Int32) (s2 : Nat) (h : xH) (Q : Outcome → xH → Prop) : Prop := tg h s2 = 102 ∧ vp_in s1 (ln h s2) ∧ (∀ h3 : xH, h3 = tD h s2 (Int32.toNatClampNeg s1) s0 → tg h3 x0 = 10 ∧ (∀ h6 : xH, h6 = sI h3 x0 2310 ((fI h3 x0 2310) + 1) → Q (.returned none) h6))
set_option maxRecDepth 100000 in
theorem uX9_pushReal_284 {G : xG} {fr lo : Nat} {x0 : Nat} {s0 : UInt64} {s1 : Int32} {s2 : Nat} {h : xH} {Q : Outcome → xH → Prop} (hq : bX9_pushReal_284 G fr lo x0 s0 s1 s2 h Q) : xP G YX9_pushReal fr lo 284 [(0, rv x0)] [.double s0, .int s1, rv s2] h Q := by
  unfold bX9_pushReal_284 at hq
  obtain ⟨g1, hq⟩ := hq
  obtain ⟨i2, hq⟩ := hq
  obtain ⟨h3, e4⟩ : ∃ y, y = tD h s2 (Int32.toNatClampNeg s1) s0 := ⟨_, rfl⟩
  replace hq := hq h3 e4
  refine x_dast' g1 i2 dX9_pushReal_284 e4 ?_
  refine x_aload_n 0 dX9_pushReal_285 rfl ?_
  refine x_dup dX9_pushReal_286 (rv_cat _) ?_
  obtain ⟨g5, hq⟩ := hq
  refine x_get (v := .int (fI h3 x0 2310)) fdX9_86 dX9_pushReal_287 g5 rfl ?_
  refine x_iconst (v := 1) dX9_pushReal_290 (by decide) ?_
  refine x_iadd dX9_pushReal_291 ?_
  obtain ⟨h6, e7⟩ : ∃ y, y = sI h3 x0 2310 ((fI h3 x0 2310) + 1) := ⟨_, rfl⟩
  replace hq := hq h6 e7
  refine x_putI fdX9_86 xty_I1 dX9_pushReal_292 g5 (Or.inl (by rw [g5]; rfl)) xnI rfl e7 ?_
  exact x_vret rfl dX9_pushReal_295 hq
set_option maxRecDepth 100000 in
def bX9_pushReal_263 (G : xG) (fr lo : Nat) (x0 : Nat) (x6 : Int32) (x14 : UInt64) (h : xH) (Q : Outcome → xH → Prop) : Prop := tg h x0 = 10 ∧ ((x6 = 0 → bX9_pushReal_284 G fr lo x0 x14 (fI h x0 2310) (fR h x0 2309) h Q) ∧ (¬ x6 = 0 → bX9_pushReal_284 G fr lo x0 (FP.dneg x14) (fI h x0 2310) (fR h x0 2309) h Q))
set_option maxRecDepth 100000 in
theorem uX9_pushReal_263 {G : xG} {fr lo : Nat} {x0 : Nat} {x6 : Int32} {x14 : UInt64} {h : xH} {Q : Outcome → xH → Prop} (hq : bX9_pushReal_263 G fr lo x0 x6 x14 h Q) : xP G YX9_pushReal fr lo 263 [(0, rv x0), (6, .int x6), (14, .double x14)] [] h Q := by
  unfold bX9_pushReal_263 at hq
  refine x_aload_n 0 dX9_pushReal_263 rfl ?_
  obtain ⟨g1, hq⟩ := hq
  refine x_get (v := rv (fR h x0 2309)) fdX9_35 dX9_pushReal_264 g1 rfl ?_
  refine x_aload_n 0 dX9_pushReal_267 rfl ?_
  refine x_get (v := .int (fI h x0 2310)) fdX9_86 dX9_pushReal_268 g1 rfl ?_
  refine x_iload 1 dX9_pushReal_271 rfl ?_
  refine x_if_eq (tgt := 282) dX9_pushReal_273 (by decide) (fun c2 => ?_) (fun c2 => ?_)
  · replace hq := hq.1 c2
    refine x_dload 2 dX9_pushReal_282 rfl ?_
    refine xP.pick (lv' := [(0, rv x0)]) [0] rfl ?_
    exact uX9_pushReal_284 hq
  · replace hq := hq.2 c2
    refine x_dload 2 dX9_pushReal_276 rfl ?_
    refine x_dneg dX9_pushReal_278 ?_
    refine x_goto (tgt := 284) dX9_pushReal_279 (by decide) ?_
    refine xP.pick (lv' := [(0, rv x0)]) [0] rfl ?_
    exact uX9_pushReal_284 hq
set_option maxRecDepth 100000 in
def bX9_pushReal_255 (G : xG) (fr lo : Nat) (x0 : Nat) (x6 : Int32) (x7 : Int32) (x14 : UInt64) (h : xH) (Q : Outcome → xH → Prop) : Prop := tg h x0 = 10 ∧ 1 ≤ fr ∧ 14 ≤ lo ∧ xRv G YX9_fail (fr - 1) (lo - 14) [rv x0, .int 11, .int x7] h (fun h4 => xext h h4 → bX9_pushReal_263 G fr lo x0 x6 x14 h4 Q) (fun r h2 => Q (.threw r) h2)
set_option maxRecDepth 100000 in
theorem uX9_pushReal_255 {G : xG} {fr lo : Nat} {x0 : Nat} {x6 : Int32} {x7 : Int32} {x14 : UInt64} {h : xH} {Q : Outcome → xH → Prop} (hq : bX9_pushReal_255 G fr lo x0 x6 x7 x14 h Q) : xP G YX9_pushReal fr lo 255 [(0, rv x0), (6, .int x6), (7, .int x7), (14, .double x14)] [] h Q := by
  unfold bX9_pushReal_255 at hq
  refine x_aload_n 0 dX9_pushReal_255 rfl ?_
  refine x_bipush (v := 11) dX9_pushReal_256 (by decide) ?_
  refine x_iload 2 dX9_pushReal_258 rfl ?_
  obtain ⟨g1, hq⟩ := hq
  obtain ⟨g2, g3, hq⟩ := hq
  refine x_callV (Yc := YX9_fail) (as := [.int 11, .int x7]) (st := []) q2835 mvX9_fail g1 rfl dX9_pushReal_260 (xle (xal1 (rv_cat _) (xal1 rfl (xal1 rfl xal0))) (by decide)) (xfr g2) (xlo xsw0 (by decide) g3) (xKv hq (fun h4 hq e6 => ?_) (fun _ _ q _ => q))
  replace hq := hq e6
  refine xP.pick (lv' := [(0, rv x0), (6, .int x6), (14, .double x14)]) [0, 1, 3] rfl ?_
  exact uX9_pushReal_263 hq
set_option maxRecDepth 100000 in
def bX9_pushReal_240 (G : xG) (fr lo : Nat) (x0 : Nat) (x6 : Int32) (x7 : Int32) (x13 : Int32) (s0 : UInt64) (h : xH) (Q : Outcome → xH → Prop) : Prop := ((¬ x13 = 0 → bX9_pushReal_255 G fr lo x0 x6 x7 s0 h Q) ∧ (x13 = 0 → 1 ≤ fr ∧ 13 ≤ lo ∧ xRi G YX0_isFinite (fr - 1) (lo - 13) [.double s0] h (fun x5 h4 => xext h h4 → ((¬ x5 = 0 → bX9_pushReal_263 G fr lo x0 x6 s0 h4 Q) ∧ (x5 = 0 → bX9_pushReal_255 G fr lo x0 x6 x7 s0 h4 Q))) (fun r h2 => Q (.threw r) h2)))
set_option maxRecDepth 100000 in
theorem uX9_pushReal_240 {G : xG} {fr lo : Nat} {x0 : Nat} {x6 : Int32} {x7 : Int32} {x13 : Int32} {s0 : UInt64} {h : xH} {Q : Outcome → xH → Prop} (hq : bX9_pushReal_240 G fr lo x0 x6 x7 x13 s0 h Q) : xP G YX9_pushReal fr lo 240 [(0, rv x0), (6, .int x6), (7, .int x7), (13, .int x13)] [.double s0] h Q := by
  unfold bX9_pushReal_240 at hq
  refine x_dstore (lv' := [(14, .double s0), (0, rv x0), (6, .int x6), (7, .int x7), (13, .int x13)]) dX9_pushReal_240 (by decide) rfl ?_
  refine x_iload 4 dX9_pushReal_242 rfl ?_
  refine x_if_ne (tgt := 255) dX9_pushReal_244 (by decide) (fun c1 => ?_) (fun c1 => ?_)
  · replace hq := hq.1 c1
    refine xP.pick (lv' := [(0, rv x0), (6, .int x6), (7, .int x7), (14, .double s0)]) [1, 2, 3, 0] rfl ?_
    exact uX9_pushReal_255 hq
  · replace hq := hq.2 c1
    refine x_dload 0 dX9_pushReal_247 rfl ?_
    obtain ⟨g2, g3, hq⟩ := hq
    refine x_callSN (Yc := YX0_isFinite) (as := [.double s0]) (st := []) (List.mem_filter.mpr ⟨q2960, rfl⟩) msX0_isFinite rfl dX9_pushReal_249 (xle (xal2 rfl xal0) (by decide)) (xfr g2) (xlo xsw0 (by decide) g3) (xKi hq (fun x5 h4 hq e6 => ?_) (fun _ _ q _ => q))
    replace hq := hq e6
    refine x_if_ne (tgt := 263) dX9_pushReal_252 (by decide) (fun c7 => ?_) (fun c7 => ?_)
    · replace hq := hq.1 c7
      refine xP.pick (lv' := [(0, rv x0), (6, .int x6), (14, .double s0)]) [1, 2, 0] rfl ?_
      exact uX9_pushReal_263 hq
    · replace hq := hq.2 c7
      refine xP.pick (lv' := [(0, rv x0), (6, .int x6), (7, .int x7), (14, .double s0)]) [1, 2, 3, 0] rfl ?_
      exact uX9_pushReal_255 hq
set_option maxRecDepth 100000 in
def bX9_pushReal_237 (G : xG) (fr lo : Nat) (x0 : Nat) (x6 : Int32) (x7 : Int32) (x13 : Int32) (s0 : Int32) (s1 : Int32) (s2 : Int64) (h : xH) (Q : Outcome → xH → Prop) : Prop := 1 ≤ fr ∧ 17 ≤ lo ∧ xRd G YX0_realOf (fr - 1) (lo - 17) [.long s2, .int s1, .int s0] h (fun x4 h3 => xext h h3 → bX9_pushReal_240 G fr lo x0 x6 x7 x13 x4 h3 Q) (fun r h2 => Q (.threw r) h2)
set_option maxRecDepth 100000 in
theorem uX9_pushReal_237 {G : xG} {fr lo : Nat} {x0 : Nat} {x6 : Int32} {x7 : Int32} {x13 : Int32} {s0 : Int32} {s1 : Int32} {s2 : Int64} {h : xH} {Q : Outcome → xH → Prop} (hq : bX9_pushReal_237 G fr lo x0 x6 x7 x13 s0 s1 s2 h Q) : xP G YX9_pushReal fr lo 237 [(0, rv x0), (6, .int x6), (7, .int x7), (13, .int x13)] [.int s0, .int s1, .long s2] h Q := by
  unfold bX9_pushReal_237 at hq
  obtain ⟨g1, g2, hq⟩ := hq
  refine x_callSN (Yc := YX0_realOf) (as := [.long s2, .int s1, .int s0]) (st := []) (List.mem_filter.mpr ⟨q3176, rfl⟩) msX0_realOf rfl dX9_pushReal_237 (xle (xal2 rfl (xal1 rfl (xal1 rfl xal0))) (by decide)) (xfr g1) (xlo xsw0 (by decide) g2) (xKd hq (fun x4 h3 hq e5 => ?_) (fun _ _ q _ => q))
  replace hq := hq e5
  exact uX9_pushReal_240 hq
set_option maxRecDepth 100000 in
def bX9_pushReal_235 (G : xG) (fr lo : Nat) (x0 : Nat) (x6 : Int32) (x7 : Int32) (x8 : Int32) (x13 : Int32) (s0 : Int32) (s1 : Int64) (h : xH) (Q : Outcome → xH → Prop) : Prop := bX9_pushReal_237 G fr lo x0 x6 x7 x13 x8 s0 s1 h Q
set_option maxRecDepth 100000 in
theorem uX9_pushReal_235 {G : xG} {fr lo : Nat} {x0 : Nat} {x6 : Int32} {x7 : Int32} {x8 : Int32} {x13 : Int32} {s0 : Int32} {s1 : Int64} {h : xH} {Q : Outcome → xH → Prop} (hq : bX9_pushReal_235 G fr lo x0 x6 x7 x8 x13 s0 s1 h Q) : xP G YX9_pushReal fr lo 235 [(0, rv x0), (6, .int x6), (7, .int x7), (8, .int x8), (13, .int x13)] [.int s0, .long s1] h Q := by
  unfold bX9_pushReal_235 at hq
  refine x_iload 3 dX9_pushReal_235 rfl ?_
  refine xP.pick (lv' := [(0, rv x0), (6, .int x6), (7, .int x7), (13, .int x13)]) [0, 1, 2, 4] rfl ?_
  exact uX9_pushReal_237 hq
set_option maxRecDepth 100000 in
def bX9_pushReal_203 (G : xG) (fr lo : Nat) (x0 : Nat) (x2 : Int64) (x5 : Int32) (x6 : Int32) (x7 : Int32) (x8 : Int32) (x10 : Int32) (x12 : Int32) (s0 : Int32) (h : xH) (Q : Outcome → xH → Prop) : Prop := ((s0 = 0 → ((x12 = 0 → bX9_pushReal_235 G fr lo x0 x6 x7 x8 s0 x5 x2 h Q) ∧ (¬ x12 = 0 → ((¬ x10 = 45 → bX9_pushReal_235 G fr lo x0 x6 x7 x8 s0 x5 x2 h Q) ∧ (x10 = 45 → bX9_pushReal_237 G fr lo x0 x6 x7 s0 (-x8) x5 x2 h Q))))) ∧ (¬ s0 = 0 → bX9_pushReal_240 G fr lo x0 x6 x7 s0 FP.dconst0 h Q))
set_option maxRecDepth 100000 in
theorem uX9_pushReal_203 {G : xG} {fr lo : Nat} {x0 : Nat} {x2 : Int64} {x5 : Int32} {x6 : Int32} {x7 : Int32} {x8 : Int32} {x10 : Int32} {x12 : Int32} {s0 : Int32} {h : xH} {Q : Outcome → xH → Prop} (hq : bX9_pushReal_203 G fr lo x0 x2 x5 x6 x7 x8 x10 x12 s0 h Q) : xP G YX9_pushReal fr lo 203 [(0, rv x0), (2, .long x2), (5, .int x5), (6, .int x6), (7, .int x7), (8, .int x8), (10, .int x10), (12, .int x12)] [.int s0] h Q := by
  unfold bX9_pushReal_203 at hq
  refine x_istore (lv' := [(13, .int s0), (0, rv x0), (2, .long x2), (5, .int x5), (6, .int x6), (7, .int x7), (8, .int x8), (10, .int x10), (12, .int x12)]) dX9_pushReal_203 (by decide) rfl ?_
  refine x_iload 0 dX9_pushReal_205 rfl ?_
  refine x_if_eq (tgt := 214) dX9_pushReal_207 (by decide) (fun c1 => ?_) (fun c1 => ?_)
  · replace hq := hq.1 c1
    refine x_lload_n 2 dX9_pushReal_214 rfl ?_
    refine x_iload 3 dX9_pushReal_215 rfl ?_
    refine x_iload 8 dX9_pushReal_217 rfl ?_
    refine x_if_eq (tgt := 235) dX9_pushReal_219 (by decide) (fun c2 => ?_) (fun c2 => ?_)
    · replace hq := hq.1 c2
      refine xP.pick (lv' := [(0, rv x0), (6, .int x6), (7, .int x7), (8, .int x8), (13, .int s0)]) [1, 4, 5, 6, 0] rfl ?_
      exact uX9_pushReal_235 hq
    · replace hq := hq.2 c2
      refine x_iload 7 dX9_pushReal_222 rfl ?_
      refine x_bipush (v := 45) dX9_pushReal_224 (by decide) ?_
      refine x_icmp_ne (tgt := 235) dX9_pushReal_226 (by decide) (fun c3 => ?_) (fun c3 => ?_)
      · replace hq := hq.1 c3
        refine xP.pick (lv' := [(0, rv x0), (6, .int x6), (7, .int x7), (8, .int x8), (13, .int s0)]) [1, 4, 5, 6, 0] rfl ?_
        exact uX9_pushReal_235 hq
      · replace hq := hq.2 c3
        refine x_iload 6 dX9_pushReal_229 rfl ?_
        refine x_ineg dX9_pushReal_231 ?_
        refine x_goto (tgt := 237) dX9_pushReal_232 (by decide) ?_
        refine xP.pick (lv' := [(0, rv x0), (6, .int x6), (7, .int x7), (13, .int s0)]) [1, 4, 5, 0] rfl ?_
        exact uX9_pushReal_237 hq
  · replace hq := hq.2 c1
    refine x_dconst0 dX9_pushReal_210 ?_
    refine x_goto (tgt := 240) dX9_pushReal_211 (by decide) ?_
    refine xP.pick (lv' := [(0, rv x0), (6, .int x6), (7, .int x7), (13, .int s0)]) [1, 4, 5, 0] rfl ?_
    exact uX9_pushReal_240 hq
set_option maxRecDepth 100000 in
def bX9_pushReal_198 (G : xG) (fr lo : Nat) (x0 : Nat) (x2 : Int64) (x5 : Int32) (x6 : Int32) (x7 : Int32) (x8 : Int32) (x10 : Int32) (x12 : Int32) (h : xH) (Q : Outcome → xH → Prop) : Prop := bX9_pushReal_203 G fr lo x0 x2 x5 x6 x7 x8 x10 x12 1 h Q
set_option maxRecDepth 100000 in
theorem uX9_pushReal_198 {G : xG} {fr lo : Nat} {x0 : Nat} {x2 : Int64} {x5 : Int32} {x6 : Int32} {x7 : Int32} {x8 : Int32} {x10 : Int32} {x12 : Int32} {h : xH} {Q : Outcome → xH → Prop} (hq : bX9_pushReal_198 G fr lo x0 x2 x5 x6 x7 x8 x10 x12 h Q) : xP G YX9_pushReal fr lo 198 [(0, rv x0), (2, .long x2), (5, .int x5), (6, .int x6), (7, .int x7), (8, .int x8), (10, .int x10), (12, .int x12)] [] h Q := by
  unfold bX9_pushReal_198 at hq
  refine x_iconst (v := 1) dX9_pushReal_198 (by decide) ?_
  refine x_goto (tgt := 203) dX9_pushReal_199 (by decide) ?_
  exact uX9_pushReal_203 hq
set_option maxRecDepth 100000 in
def bX9_pushReal_185 (G : xG) (fr lo : Nat) (x0 : Nat) (x2 : Int64) (x4 : Int32) (x5 : Int32) (x6 : Int32) (x7 : Int32) (x8 : Int32) (x9 : Int32) (x10 : Int32) (x12 : Int32) (h : xH) (Q : Outcome → xH → Prop) : Prop := ((15 < x4 → bX9_pushReal_198 G fr lo x0 x2 x5 x6 x7 x8 x10 x12 h Q) ∧ (¬ 15 < x4 → ((x9 ≤ 2 → bX9_pushReal_203 G fr lo x0 x2 x5 x6 x7 x8 x10 x12 0 h Q) ∧ (¬ x9 ≤ 2 → bX9_pushReal_198 G fr lo x0 x2 x5 x6 x7 x8 x10 x12 h Q))))
set_option maxRecDepth 100000 in
theorem uX9_pushReal_185 {G : xG} {fr lo : Nat} {x0 : Nat} {x2 : Int64} {x4 : Int32} {x5 : Int32} {x6 : Int32} {x7 : Int32} {x8 : Int32} {x9 : Int32} {x10 : Int32} {x12 : Int32} {h : xH} {Q : Outcome → xH → Prop} (hq : bX9_pushReal_185 G fr lo x0 x2 x4 x5 x6 x7 x8 x9 x10 x12 h Q) : xP G YX9_pushReal fr lo 185 [(0, rv x0), (2, .long x2), (4, .int x4), (5, .int x5), (6, .int x6), (7, .int x7), (8, .int x8), (9, .int x9), (10, .int x10), (12, .int x12)] [] h Q := by
  unfold bX9_pushReal_185 at hq
  refine x_iload 2 dX9_pushReal_185 rfl ?_
  refine x_bipush (v := 15) dX9_pushReal_187 (by decide) ?_
  refine x_icmp_gt (tgt := 198) dX9_pushReal_189 (by decide) (fun c1 => ?_) (fun c1 => ?_)
  · replace hq := hq.1 c1
    refine xP.pick (lv' := [(0, rv x0), (2, .long x2), (5, .int x5), (6, .int x6), (7, .int x7), (8, .int x8), (10, .int x10), (12, .int x12)]) [0, 1, 3, 4, 5, 6, 8, 9] rfl ?_
    exact uX9_pushReal_198 hq
  · replace hq := hq.2 c1
    refine x_iload 7 dX9_pushReal_192 rfl ?_
    refine x_iconst (v := 2) dX9_pushReal_194 (by decide) ?_
    refine x_icmp_le (tgt := 202) dX9_pushReal_195 (by decide) (fun c2 => ?_) (fun c2 => ?_)
    · replace hq := hq.1 c2
      refine x_iconst (v := 0) dX9_pushReal_202 (by decide) ?_
      refine xP.pick (lv' := [(0, rv x0), (2, .long x2), (5, .int x5), (6, .int x6), (7, .int x7), (8, .int x8), (10, .int x10), (12, .int x12)]) [0, 1, 3, 4, 5, 6, 8, 9] rfl ?_
      exact uX9_pushReal_203 hq
    · replace hq := hq.2 c2
      refine xP.pick (lv' := [(0, rv x0), (2, .long x2), (5, .int x5), (6, .int x6), (7, .int x7), (8, .int x8), (10, .int x10), (12, .int x12)]) [0, 1, 3, 4, 5, 6, 8, 9] rfl ?_
      exact uX9_pushReal_198 hq
set_option maxRecDepth 100000 in
def bX9_pushReal_169 (G : xG) (fr lo : Nat) (x0 : Nat) (x1 : Int32) (x2 : Int64) (x4 : Int32) (x5 : Int32) (x6 : Int32) (x7 : Int32) (x9 : Int32) (x10 : Int32) (x12 : Int32) (s0 : Int32) (h : xH) (Q : Outcome → xH → Prop) : Prop := tg h x0 = 10 ∧ tg h (fR h x0 2306) = 12 ∧ 1 ≤ fr ∧ 14 ≤ lo ∧ xRv G YX11_goOn (fr - 1) (lo - 14) [rv (fR h x0 2306), .int x1] h (fun h5 => xext h h5 → lX9_pushReal_126 G fr lo x0 x1 x2 x4 x5 x6 x7 s0 (x9 + 1) x10 x12 h5 Q) (fun r h2 => Q (.threw r) h2)
set_option maxRecDepth 100000 in
theorem uX9_pushReal_169 {G : xG} {fr lo : Nat} {x0 : Nat} {x1 : Int32} {x2 : Int64} {x4 : Int32} {x5 : Int32} {x6 : Int32} {x7 : Int32} {x9 : Int32} {x10 : Int32} {x12 : Int32} {s0 : Int32} {h : xH} {Q : Outcome → xH → Prop} (hq : bX9_pushReal_169 G fr lo x0 x1 x2 x4 x5 x6 x7 x9 x10 x12 s0 h Q) : xP G YX9_pushReal fr lo 169 [(0, rv x0), (1, .int x1), (2, .long x2), (4, .int x4), (5, .int x5), (6, .int x6), (7, .int x7), (9, .int x9), (10, .int x10), (12, .int x12)] [.int s0] h Q := by
  unfold bX9_pushReal_169 at hq
  refine x_istore (lv' := [(8, .int s0), (0, rv x0), (1, .int x1), (2, .long x2), (4, .int x4), (5, .int x5), (6, .int x6), (7, .int x7), (9, .int x9), (10, .int x10), (12, .int x12)]) dX9_pushReal_169 (by decide) rfl ?_
  refine x_iinc (lv' := [(9, .int (x9 + 1)), (8, .int s0), (0, rv x0), (1, .int x1), (2, .long x2), (4, .int x4), (5, .int x5), (6, .int x6), (7, .int x7), (10, .int x10), (12, .int x12)]) 8 dX9_pushReal_171 rfl (by decide) rfl ?_
  refine x_aload_n 2 dX9_pushReal_174 rfl ?_
  obtain ⟨g1, hq⟩ := hq
  refine x_get (v := rv (fR h x0 2306)) fdX9_23 dX9_pushReal_175 g1 rfl ?_
  refine x_iload_n 3 dX9_pushReal_178 rfl ?_
  obtain ⟨g2, hq⟩ := hq
  obtain ⟨g3, g4, hq⟩ := hq
  refine x_callV (Yc := YX11_goOn) (as := [.int x1]) (st := []) q3145 mvX11_goOn g2 rfl dX9_pushReal_179 (xle (xal1 (rv_cat _) (xal1 rfl xal0)) (by decide)) (xfr g3) (xlo xsw0 (by decide) g4) (xKv hq (fun h5 hq e7 => ?_) (fun _ _ q _ => q))
  replace hq := hq e7
  refine x_goto (tgt := 126) dX9_pushReal_182 (by decide) ?_
  refine xP.pick (lv' := [(0, rv x0), (1, .int x1), (2, .long x2), (4, .int x4), (5, .int x5), (6, .int x6), (7, .int x7), (8, .int s0), (9, .int (x9 + 1)), (10, .int x10), (12, .int x12)]) [2, 3, 4, 5, 6, 7, 8, 1, 0, 9, 10] rfl ?_
  exact hq
set_option maxRecDepth 100000 in
def bX9_pushReal_126 (G : xG) (fr lo : Nat) (x0 : Nat) (x1 : Int32) (x2 : Int64) (x4 : Int32) (x5 : Int32) (x6 : Int32) (x7 : Int32) (x8 : Int32) (x9 : Int32) (x10 : Int32) (x12 : Int32) (h : xH) (Q : Outcome → xH → Prop) : Prop := tg h x0 = 10 ∧ tg h (fR h x0 2306) = 12 ∧ 1 ≤ fr ∧ 13 ≤ lo ∧ xRi G YX11_here (fr - 1) (lo - 13) [rv (fR h x0 2306), .int x1] h (fun x6 h5 => xext h h5 → 1 ≤ fr ∧ 12 ≤ lo ∧ xRi G YX0_isDigit (fr - 1) (lo - 12) [.int x6] h5 (fun x11 h10 => xext h5 h10 → ((x11 = 0 → bX9_pushReal_185 G fr lo x0 x2 x4 x5 x6 x7 x8 x9 x10 x12 h10 Q) ∧ (¬ x11 = 0 → ((100 ≤ x8 → bX9_pushReal_169 G fr lo x0 x1 x2 x4 x5 x6 x7 x9 x10 x12 x8 h10 Q) ∧ (¬ 100 ≤ x8 → tg h10 (fR h10 x0 2306) = 12 ∧ 1 ≤ fr ∧ 14 ≤ lo ∧ xRi G YX11_here (fr - 1) (lo - 14) [rv (fR h10 x0 2306), .int x1] h10 (fun x21 h20 => xext h10 h20 → bX9_pushReal_169 G fr lo x0 x1 x2 x4 x5 x6 x7 x9 x10 x12 (((10 * x8) + x21) - 48) h20 Q) (fun r h2 => Q (.threw r) h2)))))) (fun r h2 => Q (.threw r) h2)) (fun r h2 => Q (.threw r) h2)
set_option maxRecDepth 100000 in
theorem uX9_pushReal_126 {G : xG} {fr lo : Nat} {x0 : Nat} {x1 : Int32} {x2 : Int64} {x4 : Int32} {x5 : Int32} {x6 : Int32} {x7 : Int32} {x8 : Int32} {x9 : Int32} {x10 : Int32} {x12 : Int32} {h : xH} {Q : Outcome → xH → Prop} (hq : bX9_pushReal_126 G fr lo x0 x1 x2 x4 x5 x6 x7 x8 x9 x10 x12 h Q) : xP G YX9_pushReal fr lo 126 [(0, rv x0), (1, .int x1), (2, .long x2), (4, .int x4), (5, .int x5), (6, .int x6), (7, .int x7), (8, .int x8), (9, .int x9), (10, .int x10), (12, .int x12)] [] h Q := by
  unfold bX9_pushReal_126 at hq
  refine x_aload_n 0 dX9_pushReal_126 rfl ?_
  obtain ⟨g1, hq⟩ := hq
  refine x_get (v := rv (fR h x0 2306)) fdX9_23 dX9_pushReal_127 g1 rfl ?_
  refine x_iload_n 1 dX9_pushReal_130 rfl ?_
  obtain ⟨g2, hq⟩ := hq
  obtain ⟨g3, g4, hq⟩ := hq
  refine x_callV (Yc := YX11_here) (as := [.int x1]) (st := []) q3131 mvX11_here g2 rfl dX9_pushReal_131 (xle (xal1 (rv_cat _) (xal1 rfl xal0)) (by decide)) (xfr g3) (xlo xsw0 (by decide) g4) (xKi hq (fun x6 h5 hq e7 => ?_) (fun _ _ q _ => q))
  replace hq := hq e7
  obtain ⟨g8, g9, hq⟩ := hq
  refine x_callSN (Yc := YX0_isDigit) (as := [.int x6]) (st := []) (List.mem_filter.mpr ⟨q3169, rfl⟩) msX0_isDigit rfl dX9_pushReal_134 (xle (xal1 rfl xal0) (by decide)) (xfr g8) (xlo xsw0 (by decide) g9) (xKi hq (fun x11 h10 hq e12 => ?_) (fun _ _ q _ => q))
  replace hq := hq e12
  refine x_if_eq (tgt := 185) dX9_pushReal_137 (by decide) (fun c13 => ?_) (fun c13 => ?_)
  · replace hq := hq.1 c13
    refine xP.pick (lv' := [(0, rv x0), (2, .long x2), (4, .int x4), (5, .int x5), (6, .int x6), (7, .int x7), (8, .int x8), (9, .int x9), (10, .int x10), (12, .int x12)]) [0, 2, 3, 4, 5, 6, 7, 8, 9, 10] rfl ?_
    exact uX9_pushReal_185 hq
  · replace hq := hq.2 c13
    refine x_iload 7 dX9_pushReal_140 rfl ?_
    refine x_bipush (v := 100) dX9_pushReal_142 (by decide) ?_
    refine x_icmp_ge (tgt := 167) dX9_pushReal_144 (by decide) (fun c14 => ?_) (fun c14 => ?_)
    · replace hq := hq.1 c14
      refine x_iload 7 dX9_pushReal_167 rfl ?_
      refine xP.pick (lv' := [(0, rv x0), (1, .int x1), (2, .long x2), (4, .int x4), (5, .int x5), (6, .int x6), (7, .int x7), (9, .int x9), (10, .int x10), (12, .int x12)]) [0, 1, 2, 3, 4, 5, 6, 8, 9, 10] rfl ?_
      exact uX9_pushReal_169 hq
    · replace hq := hq.2 c14
      refine x_bipush (v := 10) dX9_pushReal_147 (by decide) ?_
      refine x_iload 7 dX9_pushReal_149 rfl ?_
      refine x_imul dX9_pushReal_151 ?_
      refine x_aload_n 0 dX9_pushReal_152 rfl ?_
      have t15 : tg h5 x0 = 10 := e7.tg g1 (by decide)
      have t16 : tg h10 x0 = 10 := e12.tg t15 (by decide)
      refine x_get (v := rv (fR h10 x0 2306)) fdX9_23 dX9_pushReal_153 t16 rfl ?_
      refine x_iload_n 1 dX9_pushReal_156 rfl ?_
      obtain ⟨g17, hq⟩ := hq
      obtain ⟨g18, g19, hq⟩ := hq
      refine x_callV (Yc := YX11_here) (as := [.int x1]) (st := [.int (10 * x8)]) q3131 mvX11_here g17 rfl dX9_pushReal_157 (xle (xal1 (rv_cat _) (xal1 rfl xal0)) (by decide)) (xfr g18) (xlo (xsw1 rfl xsw0) (by decide) g19) (xKi hq (fun x21 h20 hq e22 => ?_) (fun _ _ q _ => q))
      replace hq := hq e22
      refine x_iadd dX9_pushReal_160 ?_
      refine x_bipush (v := 48) dX9_pushReal_161 (by decide) ?_
      refine x_isub dX9_pushReal_163 ?_
      refine x_goto (tgt := 169) dX9_pushReal_164 (by decide) ?_
      refine xP.pick (lv' := [(0, rv x0), (1, .int x1), (2, .long x2), (4, .int x4), (5, .int x5), (6, .int x6), (7, .int x7), (9, .int x9), (10, .int x10), (12, .int x12)]) [0, 1, 2, 3, 4, 5, 6, 8, 9, 10] rfl ?_
      exact uX9_pushReal_169 hq
set_option maxRecDepth 100000 in
def bX9_pushReal_98 (G : xG) (fr lo : Nat) (x0 : Nat) (x1 : Int32) (x2 : Int64) (x4 : Int32) (x5 : Int32) (x6 : Int32) (x7 : Int32) (x8 : Int32) (x9 : Int32) (x10 : Int32) (x11 : Int32) (s0 : Int32) (h : xH) (Q : Outcome → xH → Prop) : Prop := ((s0 = 0 → bX9_pushReal_185 G fr lo x0 x2 x4 x5 x6 x7 x8 x9 x10 s0 h Q) ∧ (¬ s0 = 0 → tg h x0 = 10 ∧ tg h (fR h x0 2306) = 12 ∧ 1 ≤ fr ∧ 14 ≤ lo ∧ xRv G YX11_goOn (fr - 1) (lo - 14) [rv (fR h x0 2306), .int x1] h (fun h6 => xext h h6 → ((x11 = 0 → lX9_pushReal_126 G fr lo x0 x1 x2 x4 x5 x6 x7 x8 x9 x10 s0 h6 Q) ∧ (¬ x11 = 0 → tg h6 (fR h6 x0 2306) = 12 ∧ 1 ≤ fr ∧ 14 ≤ lo ∧ xRv G YX11_goOn (fr - 1) (lo - 14) [rv (fR h6 x0 2306), .int x1] h6 (fun h14 => xext h6 h14 → lX9_pushReal_126 G fr lo x0 x1 x2 x4 x5 x6 x7 x8 x9 x10 s0 h14 Q) (fun r h2 => Q (.threw r) h2)))) (fun r h2 => Q (.threw r) h2)))
set_option maxRecDepth 100000 in
theorem uX9_pushReal_98 {G : xG} {fr lo : Nat} {x0 : Nat} {x1 : Int32} {x2 : Int64} {x4 : Int32} {x5 : Int32} {x6 : Int32} {x7 : Int32} {x8 : Int32} {x9 : Int32} {x10 : Int32} {x11 : Int32} {s0 : Int32} {h : xH} {Q : Outcome → xH → Prop} (hq : bX9_pushReal_98 G fr lo x0 x1 x2 x4 x5 x6 x7 x8 x9 x10 x11 s0 h Q) : xP G YX9_pushReal fr lo 98 [(0, rv x0), (1, .int x1), (2, .long x2), (4, .int x4), (5, .int x5), (6, .int x6), (7, .int x7), (8, .int x8), (9, .int x9), (10, .int x10), (11, .int x11)] [.int s0] h Q := by
  unfold bX9_pushReal_98 at hq
  refine x_istore (lv' := [(12, .int s0), (0, rv x0), (1, .int x1), (2, .long x2), (4, .int x4), (5, .int x5), (6, .int x6), (7, .int x7), (8, .int x8), (9, .int x9), (10, .int x10), (11, .int x11)]) dX9_pushReal_98 (by decide) rfl ?_
  refine x_iload 0 dX9_pushReal_100 rfl ?_
  refine x_if_eq (tgt := 185) dX9_pushReal_102 (by decide) (fun c1 => ?_) (fun c1 => ?_)
  · replace hq := hq.1 c1
    refine xP.pick (lv' := [(0, rv x0), (2, .long x2), (4, .int x4), (5, .int x5), (6, .int x6), (7, .int x7), (8, .int x8), (9, .int x9), (10, .int x10), (12, .int s0)]) [1, 3, 4, 5, 6, 7, 8, 9, 10, 0] rfl ?_
    exact uX9_pushReal_185 hq
  · replace hq := hq.2 c1
    refine x_aload_n 1 dX9_pushReal_105 rfl ?_
    obtain ⟨g2, hq⟩ := hq
    refine x_get (v := rv (fR h x0 2306)) fdX9_23 dX9_pushReal_106 g2 rfl ?_
    refine x_iload_n 2 dX9_pushReal_109 rfl ?_
    obtain ⟨g3, hq⟩ := hq
    obtain ⟨g4, g5, hq⟩ := hq
    refine x_callV (Yc := YX11_goOn) (as := [.int x1]) (st := []) q3145 mvX11_goOn g3 rfl dX9_pushReal_110 (xle (xal1 (rv_cat _) (xal1 rfl xal0)) (by decide)) (xfr g4) (xlo xsw0 (by decide) g5) (xKv hq (fun h6 hq e8 => ?_) (fun _ _ q _ => q))
    replace hq := hq e8
    refine x_iload 11 dX9_pushReal_113 rfl ?_
    refine x_if_eq (tgt := 126) dX9_pushReal_115 (by decide) (fun c9 => ?_) (fun c9 => ?_)
    · replace hq := hq.1 c9
      refine xP.pick (lv' := [(0, rv x0), (1, .int x1), (2, .long x2), (4, .int x4), (5, .int x5), (6, .int x6), (7, .int x7), (8, .int x8), (9, .int x9), (10, .int x10), (12, .int s0)]) [1, 2, 3, 4, 5, 6, 7, 8, 9, 10, 0] rfl ?_
      exact hq
    · replace hq := hq.2 c9
      refine x_aload_n 1 dX9_pushReal_118 rfl ?_
      have t10 : tg h6 x0 = 10 := e8.tg g2 (by decide)
      refine x_get (v := rv (fR h6 x0 2306)) fdX9_23 dX9_pushReal_119 t10 rfl ?_
      refine x_iload_n 2 dX9_pushReal_122 rfl ?_
      obtain ⟨g11, hq⟩ := hq
      obtain ⟨g12, g13, hq⟩ := hq
      refine x_callV (Yc := YX11_goOn) (as := [.int x1]) (st := []) q3145 mvX11_goOn g11 rfl dX9_pushReal_123 (xle (xal1 (rv_cat _) (xal1 rfl xal0)) (by decide)) (xfr g12) (xlo xsw0 (by decide) g13) (xKv hq (fun h14 hq e16 => ?_) (fun _ _ q _ => q))
      replace hq := hq e16
      refine xP.pick (lv' := [(0, rv x0), (1, .int x1), (2, .long x2), (4, .int x4), (5, .int x5), (6, .int x6), (7, .int x7), (8, .int x8), (9, .int x9), (10, .int x10), (12, .int s0)]) [1, 2, 3, 4, 5, 6, 7, 8, 9, 10, 0] rfl ?_
      exact hq
set_option maxRecDepth 100000 in
def bX9_pushReal_97 (G : xG) (fr lo : Nat) (x0 : Nat) (x1 : Int32) (x2 : Int64) (x4 : Int32) (x5 : Int32) (x6 : Int32) (x7 : Int32) (x8 : Int32) (x9 : Int32) (x10 : Int32) (x11 : Int32) (h : xH) (Q : Outcome → xH → Prop) : Prop := bX9_pushReal_98 G fr lo x0 x1 x2 x4 x5 x6 x7 x8 x9 x10 x11 0 h Q
set_option maxRecDepth 100000 in
theorem uX9_pushReal_97 {G : xG} {fr lo : Nat} {x0 : Nat} {x1 : Int32} {x2 : Int64} {x4 : Int32} {x5 : Int32} {x6 : Int32} {x7 : Int32} {x8 : Int32} {x9 : Int32} {x10 : Int32} {x11 : Int32} {h : xH} {Q : Outcome → xH → Prop} (hq : bX9_pushReal_97 G fr lo x0 x1 x2 x4 x5 x6 x7 x8 x9 x10 x11 h Q) : xP G YX9_pushReal fr lo 97 [(0, rv x0), (1, .int x1), (2, .long x2), (4, .int x4), (5, .int x5), (6, .int x6), (7, .int x7), (8, .int x8), (9, .int x9), (10, .int x10), (11, .int x11)] [] h Q := by
  unfold bX9_pushReal_97 at hq
  refine x_iconst (v := 0) dX9_pushReal_97 (by decide) ?_
  exact uX9_pushReal_98 hq
set_option maxRecDepth 100000 in
def bX9_pushReal_84 (G : xG) (fr lo : Nat) (x0 : Nat) (x1 : Int32) (x2 : Int64) (x4 : Int32) (x5 : Int32) (x6 : Int32) (x7 : Int32) (x8 : Int32) (x9 : Int32) (x10 : Int32) (x11 : Int32) (s0 : Int32) (s1 : Int32) (s2 : Nat) (h : xH) (Q : Outcome → xH → Prop) : Prop := tg h s2 = 12 ∧ 1 ≤ fr ∧ 16 ≤ lo ∧ xRi G YX11_ahead (fr - 1) (lo - 16) [rv s2, .int s1, .int s0] h (fun x5 h4 => xext h h4 → 1 ≤ fr ∧ 12 ≤ lo ∧ xRi G YX0_isDigit (fr - 1) (lo - 12) [.int x5] h4 (fun x10 h9 => xext h4 h9 → ((x10 = 0 → bX9_pushReal_97 G fr lo x0 x1 x2 x4 x5 x6 x7 x8 x9 x10 x11 h9 Q) ∧ (¬ x10 = 0 → bX9_pushReal_98 G fr lo x0 x1 x2 x4 x5 x6 x7 x8 x9 x10 x11 1 h9 Q))) (fun r h2 => Q (.threw r) h2)) (fun r h2 => Q (.threw r) h2)
set_option maxRecDepth 100000 in
theorem uX9_pushReal_84 {G : xG} {fr lo : Nat} {x0 : Nat} {x1 : Int32} {x2 : Int64} {x4 : Int32} {x5 : Int32} {x6 : Int32} {x7 : Int32} {x8 : Int32} {x9 : Int32} {x10 : Int32} {x11 : Int32} {s0 : Int32} {s1 : Int32} {s2 : Nat} {h : xH} {Q : Outcome → xH → Prop} (hq : bX9_pushReal_84 G fr lo x0 x1 x2 x4 x5 x6 x7 x8 x9 x10 x11 s0 s1 s2 h Q) : xP G YX9_pushReal fr lo 84 [(0, rv x0), (1, .int x1), (2, .long x2), (4, .int x4), (5, .int x5), (6, .int x6), (7, .int x7), (8, .int x8), (9, .int x9), (10, .int x10), (11, .int x11)] [.int s0, .int s1, rv s2] h Q := by
  unfold bX9_pushReal_84 at hq
  obtain ⟨g1, hq⟩ := hq
  obtain ⟨g2, g3, hq⟩ := hq
  refine x_callV (Yc := YX11_ahead) (as := [.int s1, .int s0]) (st := []) q3165 mvX11_ahead g1 rfl dX9_pushReal_84 (xle (xal1 (rv_cat _) (xal1 rfl (xal1 rfl xal0))) (by decide)) (xfr g2) (xlo xsw0 (by decide) g3) (xKi hq (fun x5 h4 hq e6 => ?_) (fun _ _ q _ => q))
  replace hq := hq e6
  obtain ⟨g7, g8, hq⟩ := hq
  refine x_callSN (Yc := YX0_isDigit) (as := [.int x5]) (st := []) (List.mem_filter.mpr ⟨q3169, rfl⟩) msX0_isDigit rfl dX9_pushReal_87 (xle (xal1 rfl xal0) (by decide)) (xfr g7) (xlo xsw0 (by decide) g8) (xKi hq (fun x10 h9 hq e11 => ?_) (fun _ _ q _ => q))
  replace hq := hq e11
  refine x_if_eq (tgt := 97) dX9_pushReal_90 (by decide) (fun c12 => ?_) (fun c12 => ?_)
  · replace hq := hq.1 c12
    exact uX9_pushReal_97 hq
  · replace hq := hq.2 c12
    refine x_iconst (v := 1) dX9_pushReal_93 (by decide) ?_
    refine x_goto (tgt := 98) dX9_pushReal_94 (by decide) ?_
    exact uX9_pushReal_98 hq
set_option maxRecDepth 100000 in
def bX9_pushReal_69 (G : xG) (fr lo : Nat) (x0 : Nat) (x1 : Int32) (x2 : Int64) (x4 : Int32) (x5 : Int32) (x6 : Int32) (x7 : Int32) (x8 : Int32) (x9 : Int32) (x10 : Int32) (x11 : Int32) (h : xH) (Q : Outcome → xH → Prop) : Prop := tg h x0 = 10 ∧ ((x11 = 0 → bX9_pushReal_84 G fr lo x0 x1 x2 x4 x5 x6 x7 x8 x9 x10 x11 1 x1 (fR h x0 2306) h Q) ∧ (¬ x11 = 0 → bX9_pushReal_84 G fr lo x0 x1 x2 x4 x5 x6 x7 x8 x9 x10 x11 2 x1 (fR h x0 2306) h Q))
set_option maxRecDepth 100000 in
theorem uX9_pushReal_69 {G : xG} {fr lo : Nat} {x0 : Nat} {x1 : Int32} {x2 : Int64} {x4 : Int32} {x5 : Int32} {x6 : Int32} {x7 : Int32} {x8 : Int32} {x9 : Int32} {x10 : Int32} {x11 : Int32} {h : xH} {Q : Outcome → xH → Prop} (hq : bX9_pushReal_69 G fr lo x0 x1 x2 x4 x5 x6 x7 x8 x9 x10 x11 h Q) : xP G YX9_pushReal fr lo 69 [(0, rv x0), (1, .int x1), (2, .long x2), (4, .int x4), (5, .int x5), (6, .int x6), (7, .int x7), (8, .int x8), (9, .int x9), (10, .int x10), (11, .int x11)] [] h Q := by
  unfold bX9_pushReal_69 at hq
  refine x_aload_n 0 dX9_pushReal_69 rfl ?_
  obtain ⟨g1, hq⟩ := hq
  refine x_get (v := rv (fR h x0 2306)) fdX9_23 dX9_pushReal_70 g1 rfl ?_
  refine x_iload_n 1 dX9_pushReal_73 rfl ?_
  refine x_iload 10 dX9_pushReal_74 rfl ?_
  refine x_if_eq (tgt := 83) dX9_pushReal_76 (by decide) (fun c2 => ?_) (fun c2 => ?_)
  · replace hq := hq.1 c2
    refine x_iconst (v := 1) dX9_pushReal_83 (by decide) ?_
    exact uX9_pushReal_84 hq
  · replace hq := hq.2 c2
    refine x_iconst (v := 2) dX9_pushReal_79 (by decide) ?_
    refine x_goto (tgt := 84) dX9_pushReal_80 (by decide) ?_
    exact uX9_pushReal_84 hq
set_option maxRecDepth 100000 in
def bX9_pushReal_36 (G : xG) (fr lo : Nat) (x0 : Nat) (x1 : Int32) (x2 : Int64) (x4 : Int32) (x5 : Int32) (x6 : Int32) (x7 : Int32) (x8 : Int32) (x9 : Int32) (x10 : Int32) (s0 : Int32) (h : xH) (Q : Outcome → xH → Prop) : Prop := ((x4 ≤ 0 → bX9_pushReal_97 G fr lo x0 x1 x2 x4 x5 x6 x7 x8 x9 x10 s0 h Q) ∧ (¬ x4 ≤ 0 → tg h x0 = 10 ∧ tg h (fR h x0 2306) = 12 ∧ 1 ≤ fr ∧ 13 ≤ lo ∧ xRi G YX11_here (fr - 1) (lo - 13) [rv (fR h x0 2306), .int x1] h (fun x7 h6 => xext h h6 → ((x7 = 101 → bX9_pushReal_69 G fr lo x0 x1 x2 x4 x5 x6 x7 x8 x9 x10 s0 h6 Q) ∧ (¬ x7 = 101 → tg h6 (fR h6 x0 2306) = 12 ∧ 1 ≤ fr ∧ 13 ≤ lo ∧ xRi G YX11_here (fr - 1) (lo - 13) [rv (fR h6 x0 2306), .int x1] h6 (fun x15 h14 => xext h6 h14 → ((¬ x15 = 69 → bX9_pushReal_97 G fr lo x0 x1 x2 x4 x5 x6 x7 x8 x9 x10 s0 h14 Q) ∧ (x15 = 69 → bX9_pushReal_69 G fr lo x0 x1 x2 x4 x5 x6 x7 x8 x9 x10 s0 h14 Q))) (fun r h2 => Q (.threw r) h2)))) (fun r h2 => Q (.threw r) h2)))
set_option maxRecDepth 100000 in
theorem uX9_pushReal_36 {G : xG} {fr lo : Nat} {x0 : Nat} {x1 : Int32} {x2 : Int64} {x4 : Int32} {x5 : Int32} {x6 : Int32} {x7 : Int32} {x8 : Int32} {x9 : Int32} {x10 : Int32} {s0 : Int32} {h : xH} {Q : Outcome → xH → Prop} (hq : bX9_pushReal_36 G fr lo x0 x1 x2 x4 x5 x6 x7 x8 x9 x10 s0 h Q) : xP G YX9_pushReal fr lo 36 [(0, rv x0), (1, .int x1), (2, .long x2), (4, .int x4), (5, .int x5), (6, .int x6), (7, .int x7), (8, .int x8), (9, .int x9), (10, .int x10)] [.int s0] h Q := by
  unfold bX9_pushReal_36 at hq
  refine x_istore (lv' := [(11, .int s0), (0, rv x0), (1, .int x1), (2, .long x2), (4, .int x4), (5, .int x5), (6, .int x6), (7, .int x7), (8, .int x8), (9, .int x9), (10, .int x10)]) dX9_pushReal_36 (by decide) rfl ?_
  refine x_iload 4 dX9_pushReal_38 rfl ?_
  refine x_if_le (tgt := 97) dX9_pushReal_40 (by decide) (fun c1 => ?_) (fun c1 => ?_)
  · replace hq := hq.1 c1
    refine xP.pick (lv' := [(0, rv x0), (1, .int x1), (2, .long x2), (4, .int x4), (5, .int x5), (6, .int x6), (7, .int x7), (8, .int x8), (9, .int x9), (10, .int x10), (11, .int s0)]) [1, 2, 3, 4, 5, 6, 7, 8, 9, 10, 0] rfl ?_
    exact uX9_pushReal_97 hq
  · replace hq := hq.2 c1
    refine x_aload_n 1 dX9_pushReal_43 rfl ?_
    obtain ⟨g2, hq⟩ := hq
    refine x_get (v := rv (fR h x0 2306)) fdX9_23 dX9_pushReal_44 g2 rfl ?_
    refine x_iload_n 2 dX9_pushReal_47 rfl ?_
    obtain ⟨g3, hq⟩ := hq
    obtain ⟨g4, g5, hq⟩ := hq
    refine x_callV (Yc := YX11_here) (as := [.int x1]) (st := []) q3131 mvX11_here g3 rfl dX9_pushReal_48 (xle (xal1 (rv_cat _) (xal1 rfl xal0)) (by decide)) (xfr g4) (xlo xsw0 (by decide) g5) (xKi hq (fun x7 h6 hq e8 => ?_) (fun _ _ q _ => q))
    replace hq := hq e8
    refine x_bipush (v := 101) dX9_pushReal_51 (by decide) ?_
    refine x_icmp_eq (tgt := 69) dX9_pushReal_53 (by decide) (fun c9 => ?_) (fun c9 => ?_)
    · replace hq := hq.1 c9
      refine xP.pick (lv' := [(0, rv x0), (1, .int x1), (2, .long x2), (4, .int x4), (5, .int x5), (6, .int x6), (7, .int x7), (8, .int x8), (9, .int x9), (10, .int x10), (11, .int s0)]) [1, 2, 3, 4, 5, 6, 7, 8, 9, 10, 0] rfl ?_
      exact uX9_pushReal_69 hq
    · replace hq := hq.2 c9
      refine x_aload_n 1 dX9_pushReal_56 rfl ?_
      have t10 : tg h6 x0 = 10 := e8.tg g2 (by decide)
      refine x_get (v := rv (fR h6 x0 2306)) fdX9_23 dX9_pushReal_57 t10 rfl ?_
      refine x_iload_n 2 dX9_pushReal_60 rfl ?_
      obtain ⟨g11, hq⟩ := hq
      obtain ⟨g12, g13, hq⟩ := hq
      refine x_callV (Yc := YX11_here) (as := [.int x1]) (st := []) q3131 mvX11_here g11 rfl dX9_pushReal_61 (xle (xal1 (rv_cat _) (xal1 rfl xal0)) (by decide)) (xfr g12) (xlo xsw0 (by decide) g13) (xKi hq (fun x15 h14 hq e16 => ?_) (fun _ _ q _ => q))
      replace hq := hq e16
      refine x_bipush (v := 69) dX9_pushReal_64 (by decide) ?_
      refine x_icmp_ne (tgt := 97) dX9_pushReal_66 (by decide) (fun c17 => ?_) (fun c17 => ?_)
      · replace hq := hq.1 c17
        refine xP.pick (lv' := [(0, rv x0), (1, .int x1), (2, .long x2), (4, .int x4), (5, .int x5), (6, .int x6), (7, .int x7), (8, .int x8), (9, .int x9), (10, .int x10), (11, .int s0)]) [1, 2, 3, 4, 5, 6, 7, 8, 9, 10, 0] rfl ?_
        exact uX9_pushReal_97 hq
      · replace hq := hq.2 c17
        refine xP.pick (lv' := [(0, rv x0), (1, .int x1), (2, .long x2), (4, .int x4), (5, .int x5), (6, .int x6), (7, .int x7), (8, .int x8), (9, .int x9), (10, .int x10), (11, .int s0)]) [1, 2, 3, 4, 5, 6, 7, 8, 9, 10, 0] rfl ?_
        exact uX9_pushReal_69 hq
set_option maxRecDepth 100000 in
def bX9_pushReal_31 (G : xG) (fr lo : Nat) (x0 : Nat) (x1 : Int32) (x2 : Int64) (x4 : Int32) (x5 : Int32) (x6 : Int32) (x7 : Int32) (x8 : Int32) (x9 : Int32) (x10 : Int32) (h : xH) (Q : Outcome → xH → Prop) : Prop := bX9_pushReal_36 G fr lo x0 x1 x2 x4 x5 x6 x7 x8 x9 x10 1 h Q
set_option maxRecDepth 100000 in
theorem uX9_pushReal_31 {G : xG} {fr lo : Nat} {x0 : Nat} {x1 : Int32} {x2 : Int64} {x4 : Int32} {x5 : Int32} {x6 : Int32} {x7 : Int32} {x8 : Int32} {x9 : Int32} {x10 : Int32} {h : xH} {Q : Outcome → xH → Prop} (hq : bX9_pushReal_31 G fr lo x0 x1 x2 x4 x5 x6 x7 x8 x9 x10 h Q) : xP G YX9_pushReal fr lo 31 [(0, rv x0), (1, .int x1), (2, .long x2), (4, .int x4), (5, .int x5), (6, .int x6), (7, .int x7), (8, .int x8), (9, .int x9), (10, .int x10)] [] h Q := by
  unfold bX9_pushReal_31 at hq
  refine x_iconst (v := 1) dX9_pushReal_31 (by decide) ?_
  refine x_goto (tgt := 36) dX9_pushReal_32 (by decide) ?_
  exact uX9_pushReal_36 hq
set_option maxRecDepth 100000 in
def bX9_pushReal (G : xG) (fr lo : Nat) (x0 : Nat) (x1 : Int32) (x2 : Int64) (x4 : Int32) (x5 : Int32) (x6 : Int32) (x7 : Int32) (h : xH) (Q : Outcome → xH → Prop) : Prop := tg h x0 = 10 ∧ tg h (fR h x0 2306) = 12 ∧ 1 ≤ fr ∧ 16 ≤ lo ∧ xRi G YX11_ahead (fr - 1) (lo - 16) [rv (fR h x0 2306), .int x1, .int 1] h (fun x6 h5 => xext h h5 → ((x6 = 43 → bX9_pushReal_31 G fr lo x0 x1 x2 x4 x5 x6 x7 0 0 x6 h5 Q) ∧ (¬ x6 = 43 → ((¬ x6 = 45 → bX9_pushReal_36 G fr lo x0 x1 x2 x4 x5 x6 x7 0 0 x6 0 h5 Q) ∧ (x6 = 45 → bX9_pushReal_31 G fr lo x0 x1 x2 x4 x5 x6 x7 0 0 x6 h5 Q))))) (fun r h2 => Q (.threw r) h2)
set_option maxRecDepth 100000 in
theorem uX9_pushReal {G : xG} {fr lo : Nat} {x0 : Nat} {x1 : Int32} {x2 : Int64} {x4 : Int32} {x5 : Int32} {x6 : Int32} {x7 : Int32} {h : xH} {Q : Outcome → xH → Prop} (hq : bX9_pushReal G fr lo x0 x1 x2 x4 x5 x6 x7 h Q) : xP G YX9_pushReal fr lo 0 [(0, rv x0), (1, .int x1), (2, .long x2), (4, .int x4), (5, .int x5), (6, .int x6), (7, .int x7)] [] h Q := by
  unfold bX9_pushReal at hq
  refine x_iconst (v := 0) dX9_pushReal_0 (by decide) ?_
  refine x_istore (lv' := [(8, .int 0), (0, rv x0), (1, .int x1), (2, .long x2), (4, .int x4), (5, .int x5), (6, .int x6), (7, .int x7)]) dX9_pushReal_1 (by decide) rfl ?_
  refine x_iconst (v := 0) dX9_pushReal_3 (by decide) ?_
  refine x_istore (lv' := [(9, .int 0), (8, .int 0), (0, rv x0), (1, .int x1), (2, .long x2), (4, .int x4), (5, .int x5), (6, .int x6), (7, .int x7)]) dX9_pushReal_4 (by decide) rfl ?_
  refine x_aload_n 2 dX9_pushReal_6 rfl ?_
  obtain ⟨g1, hq⟩ := hq
  refine x_get (v := rv (fR h x0 2306)) fdX9_23 dX9_pushReal_7 g1 rfl ?_
  refine x_iload_n 3 dX9_pushReal_10 rfl ?_
  refine x_iconst (v := 1) dX9_pushReal_11 (by decide) ?_
  obtain ⟨g2, hq⟩ := hq
  obtain ⟨g3, g4, hq⟩ := hq
  refine x_callV (Yc := YX11_ahead) (as := [.int x1, .int 1]) (st := []) q3165 mvX11_ahead g2 rfl dX9_pushReal_12 (xle (xal1 (rv_cat _) (xal1 rfl (xal1 rfl xal0))) (by decide)) (xfr g3) (xlo xsw0 (by decide) g4) (xKi hq (fun x6 h5 hq e7 => ?_) (fun _ _ q _ => q))
  replace hq := hq e7
  refine x_istore (lv' := [(10, .int x6), (9, .int 0), (8, .int 0), (0, rv x0), (1, .int x1), (2, .long x2), (4, .int x4), (5, .int x5), (6, .int x6), (7, .int x7)]) dX9_pushReal_15 (by decide) rfl ?_
  refine x_iload 0 dX9_pushReal_17 rfl ?_
  refine x_bipush (v := 43) dX9_pushReal_19 (by decide) ?_
  refine x_icmp_eq (tgt := 31) dX9_pushReal_21 (by decide) (fun c8 => ?_) (fun c8 => ?_)
  · replace hq := hq.1 c8
    refine xP.pick (lv' := [(0, rv x0), (1, .int x1), (2, .long x2), (4, .int x4), (5, .int x5), (6, .int x6), (7, .int x7), (8, .int 0), (9, .int 0), (10, .int x6)]) [3, 4, 5, 6, 7, 8, 9, 2, 1, 0] rfl ?_
    exact uX9_pushReal_31 hq
  · replace hq := hq.2 c8
    refine x_iload 0 dX9_pushReal_24 rfl ?_
    refine x_bipush (v := 45) dX9_pushReal_26 (by decide) ?_
    refine x_icmp_ne (tgt := 35) dX9_pushReal_28 (by decide) (fun c9 => ?_) (fun c9 => ?_)
    · replace hq := hq.1 c9
      refine x_iconst (v := 0) dX9_pushReal_35 (by decide) ?_
      refine xP.pick (lv' := [(0, rv x0), (1, .int x1), (2, .long x2), (4, .int x4), (5, .int x5), (6, .int x6), (7, .int x7), (8, .int 0), (9, .int 0), (10, .int x6)]) [3, 4, 5, 6, 7, 8, 9, 2, 1, 0] rfl ?_
      exact uX9_pushReal_36 hq
    · replace hq := hq.2 c9
      refine xP.pick (lv' := [(0, rv x0), (1, .int x1), (2, .long x2), (4, .int x4), (5, .int x5), (6, .int x6), (7, .int x7), (8, .int 0), (9, .int 0), (10, .int x6)]) [3, 4, 5, 6, 7, 8, 9, 2, 1, 0] rfl ?_
      exact uX9_pushReal_31 hq
theorem rX9_pushReal {G : xG} {fr lo : Nat} {x0 : Nat} {x1 : Int32} {x2 : Int64} {x4 : Int32} {x5 : Int32} {x6 : Int32} {x7 : Int32} {h : xH} {Q : Outcome → xH → Prop} (hq : bX9_pushReal G fr lo x0 x1 x2 x4 x5 x6 x7 h Q) : xR G YX9_pushReal fr lo [rv x0, .int x1, .long x2, .int x4, .int x5, .int x6, .int x7] h Q := by
  show xP _ _ _ _ _ (lv_args 0 _) _ _ _
  rw [show lv_args 0 [rv x0, .int x1, .long x2, .int x4, .int x5, .int x6, .int x7] = [(0, rv x0), (1, .int x1), (2, .long x2), (4, .int x4), (5, .int x5), (6, .int x6), (7, .int x7)] from (xla1 (rv_cat _) (xla1 rfl (xla2 rfl (xla1 rfl (xla1 rfl (xla1 rfl (xla1 rfl xla0)))))))]
  exact uX9_pushReal hq
