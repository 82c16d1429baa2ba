/-! PascalHouseModel, walked (7) -/
set_option maxRecDepth 100000 in
theorem dX12_checkTransfer_0 : decode cX12_checkTransfer 0 = .ok (.iload_n 2, 1) := by decide +kernel
set_option maxRecDepth 100000 in
theorem dX12_checkTransfer_1 : decode cX12_checkTransfer 1 = .ok (.iconst 2, 1) := by decide +kernel
set_option maxRecDepth 100000 in
theorem dX12_checkTransfer_2 : decode cX12_checkTransfer 2 = .ok (.if_icmp .gt 7, 3) := by decide +kernel
set_option maxRecDepth 100000 in
theorem dX12_checkTransfer_5 : decode cX12_checkTransfer 5 = .ok (.iconst 1, 1) := by decide +kernel
set_option maxRecDepth 100000 in
theorem dX12_checkTransfer_6 : decode cX12_checkTransfer 6 = .ok (.goto 4, 3) := by decide +kernel
set_option maxRecDepth 100000 in
theorem dX12_checkTransfer_9 : decode cX12_checkTransfer 9 = .ok (.iconst 0, 1) := by decide +kernel
set_option maxRecDepth 100000 in
theorem dX12_checkTransfer_10 : decode cX12_checkTransfer 10 = .ok (.istore_n 3, 1) := by decide +kernel
set_option maxRecDepth 100000 in
theorem dX12_checkTransfer_11 : decode cX12_checkTransfer 11 = .ok (.iload_n 2, 1) := by decide +kernel
set_option maxRecDepth 100000 in
theorem dX12_checkTransfer_12 : decode cX12_checkTransfer 12 = .ok (.iconst 2, 1) := by decide +kernel
set_option maxRecDepth 100000 in
theorem dX12_checkTransfer_13 : decode cX12_checkTransfer 13 = .ok (.if_icmp .eq 8, 3) := by decide +kernel
set_option maxRecDepth 100000 in
theorem dX12_checkTransfer_16 : decode cX12_checkTransfer 16 = .ok (.iload_n 2, 1) := by decide +kernel
set_option maxRecDepth 100000 in
theorem dX12_checkTransfer_17 : decode cX12_checkTransfer 17 = .ok (.iconst 4, 1) := by decide +kernel
set_option maxRecDepth 100000 in
theorem dX12_checkTransfer_18 : decode cX12_checkTransfer 18 = .ok (.if_icmp .ne 7, 3) := by decide +kernel
set_option maxRecDepth 100000 in
theorem dX12_checkTransfer_21 : decode cX12_checkTransfer 21 = .ok (.iconst 1, 1) := by decide +kernel
set_option maxRecDepth 100000 in
theorem dX12_checkTransfer_22 : decode cX12_checkTransfer 22 = .ok (.goto 4, 3) := by decide +kernel
set_option maxRecDepth 100000 in
theorem dX12_checkTransfer_25 : decode cX12_checkTransfer 25 = .ok (.iconst 0, 1) := by decide +kernel
set_option maxRecDepth 100000 in
theorem dX12_checkTransfer_26 : decode cX12_checkTransfer 26 = .ok (.istore 4, 2) := by decide +kernel
set_option maxRecDepth 100000 in
theorem dX12_checkTransfer_28 : decode cX12_checkTransfer 28 = .ok (.aload_n 0, 1) := by decide +kernel
set_option maxRecDepth 100000 in
theorem dX12_checkTransfer_29 : decode cX12_checkTransfer 29 = .ok (.getfield 73, 3) := by decide +kernel
set_option maxRecDepth 100000 in
theorem dX12_checkTransfer_32 : decode cX12_checkTransfer 32 = .ok (.iload_n 1, 1) := by decide +kernel
set_option maxRecDepth 100000 in
theorem dX12_checkTransfer_33 : decode cX12_checkTransfer 33 = .ok (.iaload, 1) := by decide +kernel
set_option maxRecDepth 100000 in
theorem dX12_checkTransfer_34 : decode cX12_checkTransfer 34 = .ok (.istore 5, 2) := by decide +kernel
set_option maxRecDepth 100000 in
theorem dX12_checkTransfer_36 : decode cX12_checkTransfer 36 = .ok (.iload 5, 2) := by decide +kernel
set_option maxRecDepth 100000 in
theorem dX12_checkTransfer_38 : decode cX12_checkTransfer 38 = .ok (.iconst (-1), 1) := by decide +kernel
set_option maxRecDepth 100000 in
theorem dX12_checkTransfer_39 : decode cX12_checkTransfer 39 = .ok (.if_icmp .ne 7, 3) := by decide +kernel
set_option maxRecDepth 100000 in
theorem dX12_checkTransfer_42 : decode cX12_checkTransfer 42 = .ok (.aconst_null, 1) := by decide +kernel
set_option maxRecDepth 100000 in
theorem dX12_checkTransfer_43 : decode cX12_checkTransfer 43 = .ok (.goto 14, 3) := by decide +kernel
set_option maxRecDepth 100000 in
theorem dX12_checkTransfer_46 : decode cX12_checkTransfer 46 = .ok (.aload_n 0, 1) := by decide +kernel
set_option maxRecDepth 100000 in
theorem dX12_checkTransfer_47 : decode cX12_checkTransfer 47 = .ok (.aload_n 0, 1) := by decide +kernel
set_option maxRecDepth 100000 in
theorem dX12_checkTransfer_48 : decode cX12_checkTransfer 48 = .ok (.getfield 73, 3) := by decide +kernel
set_option maxRecDepth 100000 in
theorem dX12_checkTransfer_51 : decode cX12_checkTransfer 51 = .ok (.iload 5, 2) := by decide +kernel
set_option maxRecDepth 100000 in
theorem dX12_checkTransfer_53 : decode cX12_checkTransfer 53 = .ok (.iaload, 1) := by decide +kernel
set_option maxRecDepth 100000 in
theorem dX12_checkTransfer_54 : decode cX12_checkTransfer 54 = .ok (.invokevirtual 1031, 3) := by decide +kernel
set_option maxRecDepth 100000 in
theorem dX12_checkTransfer_57 : decode cX12_checkTransfer 57 = .ok (.astore 6, 2) := by decide +kernel
set_option maxRecDepth 100000 in
theorem dX12_checkTransfer_59 : decode cX12_checkTransfer 59 = .ok (.iconst (-1), 1) := by decide +kernel
set_option maxRecDepth 100000 in
theorem dX12_checkTransfer_60 : decode cX12_checkTransfer 60 = .ok (.istore 7, 2) := by decide +kernel
set_option maxRecDepth 100000 in
theorem dX12_checkTransfer_62 : decode cX12_checkTransfer 62 = .ok (.aload 6, 2) := by decide +kernel
set_option maxRecDepth 100000 in
theorem dX12_checkTransfer_64 : decode cX12_checkTransfer 64 = .ok (.ifnull 25, 3) := by decide +kernel
set_option maxRecDepth 100000 in
theorem dX12_checkTransfer_67 : decode cX12_checkTransfer 67 = .ok (.iload 5, 2) := by decide +kernel
set_option maxRecDepth 100000 in
theorem dX12_checkTransfer_69 : decode cX12_checkTransfer 69 = .ok (.istore 7, 2) := by decide +kernel
set_option maxRecDepth 100000 in
theorem dX12_checkTransfer_71 : decode cX12_checkTransfer 71 = .ok (.aload_n 0, 1) := by decide +kernel
set_option maxRecDepth 100000 in
theorem dX12_checkTransfer_72 : decode cX12_checkTransfer 72 = .ok (.iload 5, 2) := by decide +kernel
set_option maxRecDepth 100000 in
theorem dX12_checkTransfer_74 : decode cX12_checkTransfer 74 = .ok (.invokevirtual 1019, 3) := by decide +kernel
set_option maxRecDepth 100000 in
theorem dX12_checkTransfer_77 : decode cX12_checkTransfer 77 = .ok (.aload_n 0, 1) := by decide +kernel
set_option maxRecDepth 100000 in
theorem dX12_checkTransfer_78 : decode cX12_checkTransfer 78 = .ok (.getfield 79, 3) := by decide +kernel
set_option maxRecDepth 100000 in
theorem dX12_checkTransfer_81 : decode cX12_checkTransfer 81 = .ok (.iload 5, 2) := by decide +kernel
set_option maxRecDepth 100000 in
theorem dX12_checkTransfer_83 : decode cX12_checkTransfer 83 = .ok (.iaload, 1) := by decide +kernel
set_option maxRecDepth 100000 in
theorem dX12_checkTransfer_84 : decode cX12_checkTransfer 84 = .ok (.istore 5, 2) := by decide +kernel
set_option maxRecDepth 100000 in
theorem dX12_checkTransfer_86 : decode cX12_checkTransfer 86 = .ok (.goto 36, 3) := by decide +kernel
set_option maxRecDepth 100000 in
theorem dX12_checkTransfer_89 : decode cX12_checkTransfer 89 = .ok (.iload_n 3, 1) := by decide +kernel
set_option maxRecDepth 100000 in
theorem dX12_checkTransfer_90 : decode cX12_checkTransfer 90 = .ok (.ifCond .eq 10, 3) := by decide +kernel
set_option maxRecDepth 100000 in
theorem dX12_checkTransfer_93 : decode cX12_checkTransfer 93 = .ok (.aload_n 0, 1) := by decide +kernel
set_option maxRecDepth 100000 in
theorem dX12_checkTransfer_94 : decode cX12_checkTransfer 94 = .ok (.getfield 727, 3) := by decide +kernel
set_option maxRecDepth 100000 in
theorem dX12_checkTransfer_97 : decode cX12_checkTransfer 97 = .ok (.goto 7, 3) := by decide +kernel
set_option maxRecDepth 100000 in
theorem dX12_checkTransfer_100 : decode cX12_checkTransfer 100 = .ok (.aload_n 0, 1) := by decide +kernel
set_option maxRecDepth 100000 in
theorem dX12_checkTransfer_101 : decode cX12_checkTransfer 101 = .ok (.getfield 731, 3) := by decide +kernel
set_option maxRecDepth 100000 in
theorem dX12_checkTransfer_104 : decode cX12_checkTransfer 104 = .ok (.astore 6, 2) := by decide +kernel
set_option maxRecDepth 100000 in
theorem dX12_checkTransfer_106 : decode cX12_checkTransfer 106 = .ok (.aload 6, 2) := by decide +kernel
set_option maxRecDepth 100000 in
theorem dX12_checkTransfer_108 : decode cX12_checkTransfer 108 = .ok (.ifnonnull 14, 3) := by decide +kernel
set_option maxRecDepth 100000 in
theorem dX12_checkTransfer_111 : decode cX12_checkTransfer 111 = .ok (.aload_n 0, 1) := by decide +kernel
set_option maxRecDepth 100000 in
theorem dX12_checkTransfer_112 : decode cX12_checkTransfer 112 = .ok (.iconst 4, 1) := by decide +kernel
set_option maxRecDepth 100000 in
theorem dX12_checkTransfer_113 : decode cX12_checkTransfer 113 = .ok (.aload_n 0, 1) := by decide +kernel
set_option maxRecDepth 100000 in
theorem dX12_checkTransfer_114 : decode cX12_checkTransfer 114 = .ok (.getfield 70, 3) := by decide +kernel
set_option maxRecDepth 100000 in
theorem dX12_checkTransfer_117 : decode cX12_checkTransfer 117 = .ok (.iload_n 1, 1) := by decide +kernel
set_option maxRecDepth 100000 in
theorem dX12_checkTransfer_118 : decode cX12_checkTransfer 118 = .ok (.iaload, 1) := by decide +kernel
set_option maxRecDepth 100000 in
theorem dX12_checkTransfer_119 : decode cX12_checkTransfer 119 = .ok (.invokevirtual 570, 3) := by decide +kernel
set_option maxRecDepth 100000 in
theorem dX12_checkTransfer_122 : decode cX12_checkTransfer 122 = .ok (.iload 4, 2) := by decide +kernel
set_option maxRecDepth 100000 in
theorem dX12_checkTransfer_124 : decode cX12_checkTransfer 124 = .ok (.ifCond .eq 32, 3) := by decide +kernel
set_option maxRecDepth 100000 in
theorem dX12_checkTransfer_127 : decode cX12_checkTransfer 127 = .ok (.aload 6, 2) := by decide +kernel
set_option maxRecDepth 100000 in
theorem dX12_checkTransfer_129 : decode cX12_checkTransfer 129 = .ok (.getfield 612, 3) := by decide +kernel
set_option maxRecDepth 100000 in
theorem dX12_checkTransfer_132 : decode cX12_checkTransfer 132 = .ok (.invokevirtual 1040, 3) := by decide +kernel
set_option maxRecDepth 100000 in
theorem dX12_checkTransfer_135 : decode cX12_checkTransfer 135 = .ok (.ifCond .ne 21, 3) := by decide +kernel
set_option maxRecDepth 100000 in
theorem dX12_checkTransfer_138 : decode cX12_checkTransfer 138 = .ok (.aload_n 0, 1) := by decide +kernel
set_option maxRecDepth 100000 in
theorem dX12_checkTransfer_139 : decode cX12_checkTransfer 139 = .ok (.bipush 7, 2) := by decide +kernel
set_option maxRecDepth 100000 in
theorem dX12_checkTransfer_141 : decode cX12_checkTransfer 141 = .ok (.aload_n 0, 1) := by decide +kernel
set_option maxRecDepth 100000 in
theorem dX12_checkTransfer_142 : decode cX12_checkTransfer 142 = .ok (.getfield 70, 3) := by decide +kernel
set_option maxRecDepth 100000 in
theorem dX12_checkTransfer_145 : decode cX12_checkTransfer 145 = .ok (.aload_n 0, 1) := by decide +kernel
set_option maxRecDepth 100000 in
theorem dX12_checkTransfer_146 : decode cX12_checkTransfer 146 = .ok (.getfield 73, 3) := by decide +kernel
set_option maxRecDepth 100000 in
theorem dX12_checkTransfer_149 : decode cX12_checkTransfer 149 = .ok (.iload 7, 2) := by decide +kernel
set_option maxRecDepth 100000 in
theorem dX12_checkTransfer_151 : decode cX12_checkTransfer 151 = .ok (.iaload, 1) := by decide +kernel
set_option maxRecDepth 100000 in
theorem dX12_checkTransfer_152 : decode cX12_checkTransfer 152 = .ok (.iaload, 1) := by decide +kernel
set_option maxRecDepth 100000 in
theorem dX12_checkTransfer_153 : decode cX12_checkTransfer 153 = .ok (.invokevirtual 570, 3) := by decide +kernel
set_option maxRecDepth 100000 in
theorem dX12_checkTransfer_156 : decode cX12_checkTransfer 156 = .ok (.iload 4, 2) := by decide +kernel
set_option maxRecDepth 100000 in
theorem dX12_checkTransfer_158 : decode cX12_checkTransfer 158 = .ok (.ifCond .ne 21, 3) := by decide +kernel
set_option maxRecDepth 100000 in
theorem dX12_checkTransfer_161 : decode cX12_checkTransfer 161 = .ok (.iload 5, 2) := by decide +kernel
set_option maxRecDepth 100000 in
theorem dX12_checkTransfer_163 : decode cX12_checkTransfer 163 = .ok (.iconst (-1), 1) := by decide +kernel
set_option maxRecDepth 100000 in
theorem dX12_checkTransfer_164 : decode cX12_checkTransfer 164 = .ok (.if_icmp .ne 15, 3) := by decide +kernel
set_option maxRecDepth 100000 in
theorem dX12_checkTransfer_167 : decode cX12_checkTransfer 167 = .ok (.aload_n 0, 1) := by decide +kernel
set_option maxRecDepth 100000 in
theorem dX12_checkTransfer_168 : decode cX12_checkTransfer 168 = .ok (.bipush 9, 2) := by decide +kernel
set_option maxRecDepth 100000 in
theorem dX12_checkTransfer_170 : decode cX12_checkTransfer 170 = .ok (.aload_n 0, 1) := by decide +kernel
set_option maxRecDepth 100000 in
theorem dX12_checkTransfer_171 : decode cX12_checkTransfer 171 = .ok (.getfield 70, 3) := by decide +kernel
set_option maxRecDepth 100000 in
theorem dX12_checkTransfer_174 : decode cX12_checkTransfer 174 = .ok (.iload_n 1, 1) := by decide +kernel
set_option maxRecDepth 100000 in
theorem dX12_checkTransfer_175 : decode cX12_checkTransfer 175 = .ok (.iaload, 1) := by decide +kernel
set_option maxRecDepth 100000 in
theorem dX12_checkTransfer_176 : decode cX12_checkTransfer 176 = .ok (.invokevirtual 570, 3) := by decide +kernel
set_option maxRecDepth 100000 in
theorem dX12_checkTransfer_179 : decode cX12_checkTransfer 179 = .ok (.aload_n 0, 1) := by decide +kernel
set_option maxRecDepth 100000 in
theorem dX12_checkTransfer_180 : decode cX12_checkTransfer 180 = .ok (.getfield 82, 3) := by decide +kernel
set_option maxRecDepth 100000 in
theorem dX12_checkTransfer_183 : decode cX12_checkTransfer 183 = .ok (.iload_n 1, 1) := by decide +kernel
set_option maxRecDepth 100000 in
theorem dX12_checkTransfer_184 : decode cX12_checkTransfer 184 = .ok (.iload 7, 2) := by decide +kernel
set_option maxRecDepth 100000 in
theorem dX12_checkTransfer_186 : decode cX12_checkTransfer 186 = .ok (.iastore, 1) := by decide +kernel
set_option maxRecDepth 100000 in
theorem dX12_checkTransfer_187 : decode cX12_checkTransfer 187 = .ok (.aload_n 0, 1) := by decide +kernel
set_option maxRecDepth 100000 in
theorem dX12_checkTransfer_188 : decode cX12_checkTransfer 188 = .ok (.getfield 85, 3) := by decide +kernel
set_option maxRecDepth 100000 in
theorem dX12_checkTransfer_191 : decode cX12_checkTransfer 191 = .ok (.iload_n 1, 1) := by decide +kernel
set_option maxRecDepth 100000 in
theorem dX12_checkTransfer_192 : decode cX12_checkTransfer 192 = .ok (.iload 5, 2) := by decide +kernel
set_option maxRecDepth 100000 in
theorem dX12_checkTransfer_194 : decode cX12_checkTransfer 194 = .ok (.iastore, 1) := by decide +kernel
set_option maxRecDepth 100000 in
theorem dX12_checkTransfer_195 : decode cX12_checkTransfer 195 = .ok (.iload 5, 2) := by decide +kernel
set_option maxRecDepth 100000 in
theorem dX12_checkTransfer_197 : decode cX12_checkTransfer 197 = .ok (.iconst (-1), 1) := by decide +kernel
set_option maxRecDepth 100000 in
theorem dX12_checkTransfer_198 : decode cX12_checkTransfer 198 = .ok (.if_icmp .eq 44, 3) := by decide +kernel
set_option maxRecDepth 100000 in
theorem dX12_checkTransfer_201 : decode cX12_checkTransfer 201 = .ok (.iload_n 3, 1) := by decide +kernel
set_option maxRecDepth 100000 in
theorem dX12_checkTransfer_202 : decode cX12_checkTransfer 202 = .ok (.ifCond .eq 17, 3) := by decide +kernel
set_option maxRecDepth 100000 in
theorem dX12_checkTransfer_205 : decode cX12_checkTransfer 205 = .ok (.aload_n 0, 1) := by decide +kernel
set_option maxRecDepth 100000 in
theorem dX12_checkTransfer_206 : decode cX12_checkTransfer 206 = .ok (.iload 5, 2) := by decide +kernel
set_option maxRecDepth 100000 in
theorem dX12_checkTransfer_208 : decode cX12_checkTransfer 208 = .ok (.aload 6, 2) := by decide +kernel
set_option maxRecDepth 100000 in
theorem dX12_checkTransfer_210 : decode cX12_checkTransfer 210 = .ok (.getfield 612, 3) := by decide +kernel
set_option maxRecDepth 100000 in
theorem dX12_checkTransfer_213 : decode cX12_checkTransfer 213 = .ok (.invokevirtual 1043, 3) := by decide +kernel
set_option maxRecDepth 100000 in
theorem dX12_checkTransfer_216 : decode cX12_checkTransfer 216 = .ok (.goto 14, 3) := by decide +kernel
set_option maxRecDepth 100000 in
theorem dX12_checkTransfer_219 : decode cX12_checkTransfer 219 = .ok (.aload_n 0, 1) := by decide +kernel
set_option maxRecDepth 100000 in
theorem dX12_checkTransfer_220 : decode cX12_checkTransfer 220 = .ok (.iload 5, 2) := by decide +kernel
set_option maxRecDepth 100000 in
theorem dX12_checkTransfer_222 : decode cX12_checkTransfer 222 = .ok (.aload 6, 2) := by decide +kernel
set_option maxRecDepth 100000 in
theorem dX12_checkTransfer_224 : decode cX12_checkTransfer 224 = .ok (.getfield 612, 3) := by decide +kernel
set_option maxRecDepth 100000 in
theorem dX12_checkTransfer_227 : decode cX12_checkTransfer 227 = .ok (.invokevirtual 1047, 3) := by decide +kernel
set_option maxRecDepth 100000 in
theorem dX12_checkTransfer_230 : decode cX12_checkTransfer 230 = .ok (.aload_n 0, 1) := by decide +kernel
set_option maxRecDepth 100000 in
theorem dX12_checkTransfer_231 : decode cX12_checkTransfer 231 = .ok (.getfield 79, 3) := by decide +kernel
set_option maxRecDepth 100000 in
theorem dX12_checkTransfer_234 : decode cX12_checkTransfer 234 = .ok (.iload 5, 2) := by decide +kernel
set_option maxRecDepth 100000 in
theorem dX12_checkTransfer_236 : decode cX12_checkTransfer 236 = .ok (.iaload, 1) := by decide +kernel
set_option maxRecDepth 100000 in
theorem dX12_checkTransfer_237 : decode cX12_checkTransfer 237 = .ok (.istore 5, 2) := by decide +kernel
set_option maxRecDepth 100000 in
theorem dX12_checkTransfer_239 : decode cX12_checkTransfer 239 = .ok (.goto (-44), 3) := by decide +kernel
set_option maxRecDepth 100000 in
theorem dX12_checkTransfer_242 : decode cX12_checkTransfer 242 = .ok (.return_, 1) := by decide +kernel
def lX12_checkTransfer_195 (G : xG) (fr lo : Nat) (x0 : Nat) (x3 : Int32) (x5 : Int32) (x6 : Nat) (h : xH) (Q : Outcome → xH → Prop) : Prop := xP G YX12_checkTransfer fr lo 195 [(0, rv x0), (3, .int x3), (5, .int x5), (6, rv x6)] [] h Q
set_option maxRecDepth 100000 in
def bX12_checkTransfer_230 (G : xG) (fr lo : Nat) (x0 : Nat) (x3 : Int32) (x5 : Int32) (x6 : Nat) (h : xH) (Q : Outcome → xH → Prop) : Prop := tg h x0 = 13 ∧ tg h (fR h x0 3105) = 100 ∧ vp_in x5 (ln h (fR h x0 3105)) ∧ lX12_checkTransfer_195 G fr lo x0 x3 (aI h (fR h x0 3105) (Int32.toNatClampNeg x5)) x6 h Q
set_option maxRecDepth 100000 in
theorem uX12_checkTransfer_230 {G : xG} {fr lo : Nat} {x0 : Nat} {x3 : Int32} {x5 : Int32} {x6 : Nat} {h : xH} {Q : Outcome → xH → Prop} (hq : bX12_checkTransfer_230 G fr lo x0 x3 x5 x6 h Q) : xP G YX12_checkTransfer fr lo 230 [(0, rv x0), (3, .int x3), (5, .int x5), (6, rv x6)] [] h Q := by
  unfold bX12_checkTransfer_230 at hq
  refine x_aload_n 0 dX12_checkTransfer_230 rfl ?_
  obtain ⟨g1, hq⟩ := hq
  refine x_get (v := rv (fR h x0 3105)) fdX12_79 dX12_checkTransfer_231 g1 rfl ?_
  refine x_iload 2 dX12_checkTransfer_234 rfl ?_
  obtain ⟨g2, hq⟩ := hq
  obtain ⟨i3, hq⟩ := hq
  refine x_iald 0 (Or.inl rfl) g2 i3 dX12_checkTransfer_236 ?_
  refine x_istore (lv' := [(5, .int (aI h (fR h x0 3105) (Int32.toNatClampNeg x5))), (0, rv x0), (3, .int x3), (6, rv x6)]) dX12_checkTransfer_237 (by decide) rfl ?_
  refine x_goto (tgt := 195) dX12_checkTransfer_239 (by decide) ?_
  refine xP.pick (lv' := [(0, rv x0), (3, .int x3), (5, .int (aI h (fR h x0 3105) (Int32.toNatClampNeg x5))), (6, rv x6)]) [1, 2, 0, 3] rfl ?_
  exact hq
set_option maxRecDepth 100000 in
def bX12_checkTransfer_195 (G : xG) (fr lo : Nat) (x0 : Nat) (x3 : Int32) (x5 : Int32) (x6 : Nat) (h : xH) (Q : Outcome → xH → Prop) : Prop := ((x5 = (-1) → Q (.returned none) h) ∧ (¬ x5 = (-1) → ((x3 = 0 → tg h x6 = 24 ∧ tg h x0 = 13 ∧ 1 ≤ fr ∧ 17 ≤ lo ∧ xRv G YX12_checkWrite (fr - 1) (lo - 17) [rv x0, .int x5, rv (fR h x6 5890)] h (fun h7 => xext h h7 → bX12_checkTransfer_230 G fr lo x0 x3 x5 x6 h7 Q) (fun r h2 => Q (.threw r) h2)) ∧ (¬ x3 = 0 → tg h x6 = 24 ∧ tg h x0 = 13 ∧ 1 ≤ fr ∧ 18 ≤ lo ∧ xRv G YX12_checkRead (fr - 1) (lo - 18) [rv x0, .int x5, rv (fR h x6 5890)] h (fun h14 => xext h h14 → bX12_checkTransfer_230 G fr lo x0 x3 x5 x6 h14 Q) (fun r h2 => Q (.threw r) h2)))))
set_option maxRecDepth 100000 in
theorem uX12_checkTransfer_195 {G : xG} {fr lo : Nat} {x0 : Nat} {x3 : Int32} {x5 : Int32} {x6 : Nat} {h : xH} {Q : Outcome → xH → Prop} (hq : bX12_checkTransfer_195 G fr lo x0 x3 x5 x6 h Q) : xP G YX12_checkTransfer fr lo 195 [(0, rv x0), (3, .int x3), (5, .int x5), (6, rv x6)] [] h Q := by
  unfold bX12_checkTransfer_195 at hq
  refine x_iload 2 dX12_checkTransfer_195 rfl ?_
  refine x_iconst (v := (-1)) dX12_checkTransfer_197 (by decide) ?_
  refine x_icmp_eq (tgt := 242) dX12_checkTransfer_198 (by decide) (fun c1 => ?_) (fun c1 => ?_)
  · replace hq := hq.1 c1
    exact x_vret rfl dX12_checkTransfer_242 hq
  · replace hq := hq.2 c1
    refine x_iload_n 1 dX12_checkTransfer_201 rfl ?_
    refine x_if_eq (tgt := 219) dX12_checkTransfer_202 (by decide) (fun c2 => ?_) (fun c2 => ?_)
    · replace hq := hq.1 c2
      refine x_aload_n 0 dX12_checkTransfer_219 rfl ?_
      refine x_iload 2 dX12_checkTransfer_220 rfl ?_
      refine x_aload 3 dX12_checkTransfer_222 rfl ?_
      obtain ⟨g3, hq⟩ := hq
      refine x_get (v := rv (fR h x6 5890)) fdX12_612 dX12_checkTransfer_224 g3 rfl ?_
      obtain ⟨g4, hq⟩ := hq
      obtain ⟨g5, g6, hq⟩ := hq
      refine x_callV (Yc := YX12_checkWrite) (as := [.int x5, rv (fR h x6 5890)]) (st := []) q4468 mvX12_checkWrite g4 rfl dX12_checkTransfer_227 (xle (xal1 (rv_cat _) (xal1 rfl (xal1 (rv_cat _) xal0))) (by decide)) (xfr g5) (xlo xsw0 (by decide) g6) (xKv hq (fun h7 hq e9 => ?_) (fun _ _ q _ => q))
      replace hq := hq e9
      exact uX12_checkTransfer_230 hq
    · replace hq := hq.2 c2
      refine x_aload_n 0 dX12_checkTransfer_205 rfl ?_
      refine x_iload 2 dX12_checkTransfer_206 rfl ?_
      refine x_aload 3 dX12_checkTransfer_208 rfl ?_
      obtain ⟨g10, hq⟩ := hq
      refine x_get (v := rv (fR h x6 5890)) fdX12_612 dX12_checkTransfer_210 g10 rfl ?_
      obtain ⟨g11, hq⟩ := hq
      obtain ⟨g12, g13, hq⟩ := hq
      refine x_callV (Yc := YX12_checkRead) (as := [.int x5, rv (fR h x6 5890)]) (st := []) q4464 mvX12_checkRead g11 rfl dX12_checkTransfer_213 (xle (xal1 (rv_cat _) (xal1 rfl (xal1 (rv_cat _) xal0))) (by decide)) (xfr g12) (xlo xsw0 (by decide) g13) (xKv hq (fun h14 hq e16 => ?_) (fun _ _ q _ => q))
      replace hq := hq e16
      refine x_goto (tgt := 230) dX12_checkTransfer_216 (by decide) ?_
      exact uX12_checkTransfer_230 hq
set_option maxRecDepth 100000 in
def bX12_checkTransfer_179 (G : xG) (fr lo : Nat) (x0 : Nat) (x1 : Int32) (x3 : Int32) (x5 : Int32) (x6 : Nat) (x7 : Int32) (h : xH) (Q : Outcome → xH → Prop) : Prop := tg h x0 = 13 ∧ tg h (fR h x0 3106) = 100 ∧ vp_in x1 (ln h (fR h x0 3106)) ∧ (∀ h4 : xH, h4 = tI h (fR h x0 3106) (Int32.toNatClampNeg x1) x7 → tg h4 (fR h4 x0 3107) = 100 ∧ vp_in x1 (ln h4 (fR h4 x0 3107)) ∧ (∀ h9 : xH, h9 = tI h4 (fR h4 x0 3107) (Int32.toNatClampNeg x1) x5 → lX12_checkTransfer_195 G fr lo x0 x3 x5 x6 h9 Q))
set_option maxRecDepth 100000 in
theorem uX12_checkTransfer_179 {G : xG} {fr lo : Nat} {x0 : Nat} {x1 : Int32} {x3 : Int32} {x5 : Int32} {x6 : Nat} {x7 : Int32} {h : xH} {Q : Outcome → xH → Prop} (hq : bX12_checkTransfer_179 G fr lo x0 x1 x3 x5 x6 x7 h Q) : xP G YX12_checkTransfer fr lo 179 [(0, rv x0), (1, .int x1), (3, .int x3), (5, .int x5), (6, rv x6), (7, .int x7)] [] h Q := by
  unfold bX12_checkTransfer_179 at hq
  refine x_aload_n 0 dX12_checkTransfer_179 rfl ?_
  obtain ⟨g1, hq⟩ := hq
  refine x_get (v := rv (fR h x0 3106)) fdX12_82 dX12_checkTransfer_180 g1 rfl ?_
  refine x_iload_n 1 dX12_checkTransfer_183 rfl ?_
  refine x_iload 5 dX12_checkTransfer_184 rfl ?_
  obtain ⟨g2, hq⟩ := hq
  obtain ⟨i3, hq⟩ := hq
  obtain ⟨h4, e5⟩ : ∃ y, y = tI h (fR h x0 3106) (Int32.toNatClampNeg x1) x7 := ⟨_, rfl⟩
  replace hq := hq h4 e5
  refine x_iast' g2 i3 dX12_checkTransfer_186 e5 ?_
  refine x_aload_n 0 dX12_checkTransfer_187 rfl ?_
  have t6 : tg h4 x0 = 13 := by rw [e5]; exact g1
  refine x_get (v := rv (fR h4 x0 3107)) fdX12_85 dX12_checkTransfer_188 t6 rfl ?_
  refine x_iload_n 1 dX12_checkTransfer_191 rfl ?_
  refine x_iload 3 dX12_checkTransfer_192 rfl ?_
  obtain ⟨g7, hq⟩ := hq
  obtain ⟨i8, hq⟩ := hq
  obtain ⟨h9, e10⟩ : ∃ y, y = tI h4 (fR h4 x0 3107) (Int32.toNatClampNeg x1) x5 := ⟨_, rfl⟩
  replace hq := hq h9 e10
  refine x_iast' g7 i8 dX12_checkTransfer_194 e10 ?_
  refine xP.pick (lv' := [(0, rv x0), (3, .int x3), (5, .int x5), (6, rv x6)]) [0, 2, 3, 4] rfl ?_
  exact hq
set_option maxRecDepth 100000 in
def bX12_checkTransfer_156 (G : xG) (fr lo : Nat) (x0 : Nat) (x1 : Int32) (x3 : Int32) (x4 : Int32) (x5 : Int32) (x6 : Nat) (x7 : Int32) (h : xH) (Q : Outcome → xH → Prop) : Prop := ((¬ x4 = 0 → bX12_checkTransfer_179 G fr lo x0 x1 x3 x5 x6 x7 h Q) ∧ (x4 = 0 → ((¬ x5 = (-1) → bX12_checkTransfer_179 G fr lo x0 x1 x3 x5 x6 x7 h Q) ∧ (x5 = (-1) → tg h x0 = 13 ∧ tg h (fR h x0 3102) = 100 ∧ vp_in x1 (ln h (fR h x0 3102)) ∧ 1 ≤ fr ∧ 14 ≤ lo ∧ xRv G YX12_refuse (fr - 1) (lo - 14) [rv x0, .int 9, .int (aI h (fR h x0 3102) (Int32.toNatClampNeg x1))] h (fun h8 => xext h h8 → bX12_checkTransfer_179 G fr lo x0 x1 x3 x5 x6 x7 h8 Q) (fun r h2 => Q (.threw r) h2)))))
set_option maxRecDepth 100000 in
theorem uX12_checkTransfer_156 {G : xG} {fr lo : Nat} {x0 : Nat} {x1 : Int32} {x3 : Int32} {x4 : Int32} {x5 : Int32} {x6 : Nat} {x7 : Int32} {h : xH} {Q : Outcome → xH → Prop} (hq : bX12_checkTransfer_156 G fr lo x0 x1 x3 x4 x5 x6 x7 h Q) : xP G YX12_checkTransfer fr lo 156 [(0, rv x0), (1, .int x1), (3, .int x3), (4, .int x4), (5, .int x5), (6, rv x6), (7, .int x7)] [] h Q := by
  unfold bX12_checkTransfer_156 at hq
  refine x_iload 3 dX12_checkTransfer_156 rfl ?_
  refine x_if_ne (tgt := 179) dX12_checkTransfer_158 (by decide) (fun c1 => ?_) (fun c1 => ?_)
  · replace hq := hq.1 c1
    refine xP.pick (lv' := [(0, rv x0), (1, .int x1), (3, .int x3), (5, .int x5), (6, rv x6), (7, .int x7)]) [0, 1, 2, 4, 5, 6] rfl ?_
    exact uX12_checkTransfer_179 hq
  · replace hq := hq.2 c1
    refine x_iload 4 dX12_checkTransfer_161 rfl ?_
    refine x_iconst (v := (-1)) dX12_checkTransfer_163 (by decide) ?_
    refine x_icmp_ne (tgt := 179) dX12_checkTransfer_164 (by decide) (fun c2 => ?_) (fun c2 => ?_)
    · replace hq := hq.1 c2
      refine xP.pick (lv' := [(0, rv x0), (1, .int x1), (3, .int x3), (5, .int x5), (6, rv x6), (7, .int x7)]) [0, 1, 2, 4, 5, 6] rfl ?_
      exact uX12_checkTransfer_179 hq
    · replace hq := hq.2 c2
      refine x_aload_n 0 dX12_checkTransfer_167 rfl ?_
      refine x_bipush (v := 9) dX12_checkTransfer_168 (by decide) ?_
      refine x_aload_n 0 dX12_checkTransfer_170 rfl ?_
      obtain ⟨g3, hq⟩ := hq
      refine x_get (v := rv (fR h x0 3102)) fdX12_70 dX12_checkTransfer_171 g3 rfl ?_
      refine x_iload_n 1 dX12_checkTransfer_174 rfl ?_
      obtain ⟨g4, hq⟩ := hq
      obtain ⟨i5, hq⟩ := hq
      refine x_iald 0 (Or.inl rfl) g4 i5 dX12_checkTransfer_175 ?_
      obtain ⟨g6, g7, hq⟩ := hq
      refine x_callV (Yc := YX12_refuse) (as := [.int 9, .int (aI h (fR h x0 3102) (Int32.toNatClampNeg x1))]) (st := []) q4095 mvX12_refuse g3 rfl dX12_checkTransfer_176 (xle (xal1 (rv_cat _) (xal1 rfl (xal1 rfl xal0))) (by decide)) (xfr g6) (xlo xsw0 (by decide) g7) (xKv hq (fun h8 hq e10 => ?_) (fun _ _ q _ => q))
      replace hq := hq e10
      refine xP.pick (lv' := [(0, rv x0), (1, .int x1), (3, .int x3), (5, .int x5), (6, rv x6), (7, .int x7)]) [0, 1, 2, 4, 5, 6] rfl ?_
      exact uX12_checkTransfer_179 hq
set_option maxRecDepth 100000 in
def bX12_checkTransfer_122 (G : xG) (fr lo : Nat) (x0 : Nat) (x1 : Int32) (x3 : Int32) (x4 : Int32) (x5 : Int32) (x6 : Nat) (x7 : Int32) (h : xH) (Q : Outcome → xH → Prop) : Prop := ((x4 = 0 → bX12_checkTransfer_156 G fr lo x0 x1 x3 x4 x5 x6 x7 h Q) ∧ (¬ x4 = 0 → tg h x6 = 24 ∧ tg h (fR h x6 5890) = 14 ∧ 1 ≤ fr ∧ 12 ≤ lo ∧ xRi G YX13_isText (fr - 1) (lo - 12) [rv (fR h x6 5890)] h (fun x7 h6 => xext h h6 → ((¬ x7 = 0 → bX12_checkTransfer_156 G fr lo x0 x1 x3 x4 x5 x6 x7 h6 Q) ∧ (x7 = 0 → tg h6 x0 = 13 ∧ tg h6 (fR h6 x0 3103) = 100 ∧ vp_in x7 (ln h6 (fR h6 x0 3103)) ∧ tg h6 (fR h6 x0 3102) = 100 ∧ vp_in (aI h6 (fR h6 x0 3103) (Int32.toNatClampNeg x7)) (ln h6 (fR h6 x0 3102)) ∧ 1 ≤ fr ∧ 14 ≤ lo ∧ xRv G YX12_refuse (fr - 1) (lo - 14) [rv x0, .int 7, .int (aI h6 (fR h6 x0 3102) (Int32.toNatClampNeg (aI h6 (fR h6 x0 3103) (Int32.toNatClampNeg x7))))] h6 (fun h17 => xext h6 h17 → bX12_checkTransfer_156 G fr lo x0 x1 x3 x4 x5 x6 x7 h17 Q) (fun r h2 => Q (.threw r) h2)))) (fun r h2 => Q (.threw r) h2)))
set_option maxRecDepth 100000 in
theorem uX12_checkTransfer_122 {G : xG} {fr lo : Nat} {x0 : Nat} {x1 : Int32} {x3 : Int32} {x4 : Int32} {x5 : Int32} {x6 : Nat} {x7 : Int32} {h : xH} {Q : Outcome → xH → Prop} (hq : bX12_checkTransfer_122 G fr lo x0 x1 x3 x4 x5 x6 x7 h Q) : xP G YX12_checkTransfer fr lo 122 [(0, rv x0), (1, .int x1), (3, .int x3), (4, .int x4), (5, .int x5), (6, rv x6), (7, .int x7)] [] h Q := by
  unfold bX12_checkTransfer_122 at hq
  refine x_iload 3 dX12_checkTransfer_122 rfl ?_
  refine x_if_eq (tgt := 156) dX12_checkTransfer_124 (by decide) (fun c1 => ?_) (fun c1 => ?_)
  · replace hq := hq.1 c1
    exact uX12_checkTransfer_156 hq
  · replace hq := hq.2 c1
    refine x_aload 5 dX12_checkTransfer_127 rfl ?_
    obtain ⟨g2, hq⟩ := hq
    refine x_get (v := rv (fR h x6 5890)) fdX12_612 dX12_checkTransfer_129 g2 rfl ?_
    obtain ⟨g3, hq⟩ := hq
    obtain ⟨g4, g5, hq⟩ := hq
    refine x_callV (Yc := YX13_isText) (as := []) (st := []) q4352 mvX13_isText g3 rfl dX12_checkTransfer_132 (xle (xal1 (rv_cat _) xal0) (by decide)) (xfr g4) (xlo xsw0 (by decide) g5) (xKi hq (fun x7 h6 hq e8 => ?_) (fun _ _ q _ => q))
    replace hq := hq e8
    refine x_if_ne (tgt := 156) dX12_checkTransfer_135 (by decide) (fun c9 => ?_) (fun c9 => ?_)
    · replace hq := hq.1 c9
      exact uX12_checkTransfer_156 hq
    · replace hq := hq.2 c9
      refine x_aload_n 0 dX12_checkTransfer_138 rfl ?_
      refine x_bipush (v := 7) dX12_checkTransfer_139 (by decide) ?_
      refine x_aload_n 0 dX12_checkTransfer_141 rfl ?_
      obtain ⟨g10, hq⟩ := hq
      refine x_get (v := rv (fR h6 x0 3102)) fdX12_70 dX12_checkTransfer_142 g10 rfl ?_
      refine x_aload_n 0 dX12_checkTransfer_145 rfl ?_
      refine x_get (v := rv (fR h6 x0 3103)) fdX12_73 dX12_checkTransfer_146 g10 rfl ?_
      refine x_iload 6 dX12_checkTransfer_149 rfl ?_
      obtain ⟨g11, hq⟩ := hq
      obtain ⟨i12, hq⟩ := hq
      refine x_iald 0 (Or.inl rfl) g11 i12 dX12_checkTransfer_151 ?_
      obtain ⟨g13, hq⟩ := hq
      obtain ⟨i14, hq⟩ := hq
      refine x_iald 0 (Or.inl rfl) g13 i14 dX12_checkTransfer_152 ?_
      obtain ⟨g15, g16, hq⟩ := hq
      refine x_callV (Yc := YX12_refuse) (as := [.int 7, .int (aI h6 (fR h6 x0 3102) (Int32.toNatClampNeg (aI h6 (fR h6 x0 3103) (Int32.toNatClampNeg x7))))]) (st := []) q4095 mvX12_refuse g10 rfl dX12_checkTransfer_153 (xle (xal1 (rv_cat _) (xal1 rfl (xal1 rfl xal0))) (by decide)) (xfr g15) (xlo xsw0 (by decide) g16) (xKv hq (fun h17 hq e19 => ?_) (fun _ _ q _ => q))
      replace hq := hq e19
      exact uX12_checkTransfer_156 hq
set_option maxRecDepth 100000 in
def bX12_checkTransfer_104 (G : xG) (fr lo : Nat) (x0 : Nat) (x1 : Int32) (x3 : Int32) (x4 : Int32) (x5 : Int32) (x7 : Int32) (s0 : Nat) (h : xH) (Q : Outcome → xH → Prop) : Prop := ((¬ s0 = 0 → bX12_checkTransfer_122 G fr lo x0 x1 x3 x4 x5 s0 x7 h Q) ∧ (s0 = 0 → tg h x0 = 13 ∧ tg h (fR h x0 3102) = 100 ∧ vp_in x1 (ln h (fR h x0 3102)) ∧ 1 ≤ fr ∧ 14 ≤ lo ∧ xRv G YX12_refuse (fr - 1) (lo - 14) [rv x0, .int 4, .int (aI h (fR h x0 3102) (Int32.toNatClampNeg x1))] h (fun h7 => xext h h7 → bX12_checkTransfer_122 G fr lo x0 x1 x3 x4 x5 s0 x7 h7 Q) (fun r h2 => Q (.threw r) h2)))
set_option maxRecDepth 100000 in
theorem uX12_checkTransfer_104 {G : xG} {fr lo : Nat} {x0 : Nat} {x1 : Int32} {x3 : Int32} {x4 : Int32} {x5 : Int32} {x7 : Int32} {s0 : Nat} {h : xH} {Q : Outcome → xH → Prop} (hq : bX12_checkTransfer_104 G fr lo x0 x1 x3 x4 x5 x7 s0 h Q) : xP G YX12_checkTransfer fr lo 104 [(0, rv x0), (1, .int x1), (3, .int x3), (4, .int x4), (5, .int x5), (7, .int x7)] [rv s0] h Q := by
  unfold bX12_checkTransfer_104 at hq
  refine x_astore (lv' := [(6, rv s0), (0, rv x0), (1, .int x1), (3, .int x3), (4, .int x4), (5, .int x5), (7, .int x7)]) dX12_checkTransfer_104 (by decide) rfl ?_
  refine x_aload 0 dX12_checkTransfer_106 rfl ?_
  refine x_ifnonnull (tgt := 122) dX12_checkTransfer_108 (by decide) (fun c1 => ?_) (fun c1 => ?_)
  · replace hq := hq.1 c1
    refine xP.pick (lv' := [(0, rv x0), (1, .int x1), (3, .int x3), (4, .int x4), (5, .int x5), (6, rv s0), (7, .int x7)]) [1, 2, 3, 4, 5, 0, 6] rfl ?_
    exact uX12_checkTransfer_122 hq
  · replace hq := hq.2 c1
    refine x_aload_n 1 dX12_checkTransfer_111 rfl ?_
    refine x_iconst (v := 4) dX12_checkTransfer_112 (by decide) ?_
    refine x_aload_n 1 dX12_checkTransfer_113 rfl ?_
    obtain ⟨g2, hq⟩ := hq
    refine x_get (v := rv (fR h x0 3102)) fdX12_70 dX12_checkTransfer_114 g2 rfl ?_
    refine x_iload_n 2 dX12_checkTransfer_117 rfl ?_
    obtain ⟨g3, hq⟩ := hq
    obtain ⟨i4, hq⟩ := hq
    refine x_iald 0 (Or.inl rfl) g3 i4 dX12_checkTransfer_118 ?_
    obtain ⟨g5, g6, hq⟩ := hq
    refine x_callV (Yc := YX12_refuse) (as := [.int 4, .int (aI h (fR h x0 3102) (Int32.toNatClampNeg x1))]) (st := []) q4095 mvX12_refuse g2 rfl dX12_checkTransfer_119 (xle (xal1 (rv_cat _) (xal1 rfl (xal1 rfl xal0))) (by decide)) (xfr g5) (xlo xsw0 (by decide) g6) (xKv hq (fun h7 hq e9 => ?_) (fun _ _ q _ => q))
    replace hq := hq e9
    refine xP.pick (lv' := [(0, rv x0), (1, .int x1), (3, .int x3), (4, .int x4), (5, .int x5), (6, rv s0), (7, .int x7)]) [1, 2, 3, 4, 5, 0, 6] rfl ?_
    exact uX12_checkTransfer_122 hq
set_option maxRecDepth 100000 in
def bX12_checkTransfer_57 (G : xG) (fr lo : Nat) (x0 : Nat) (x1 : Int32) (x3 : Int32) (x4 : Int32) (x5 : Int32) (s0 : Nat) (h : xH) (Q : Outcome → xH → Prop) : Prop := ((s0 = 0 → ((x3 = 0 → tg h x0 = 13 ∧ bX12_checkTransfer_104 G fr lo x0 x1 x3 x4 x5 (-1) (fR h x0 3130) h Q) ∧ (¬ x3 = 0 → tg h x0 = 13 ∧ bX12_checkTransfer_104 G fr lo x0 x1 x3 x4 x5 (-1) (fR h x0 3129) h Q))) ∧ (¬ s0 = 0 → tg h x0 = 13 ∧ 1 ≤ fr ∧ 13 ≤ lo ∧ xRv G YX12_colon (fr - 1) (lo - 13) [rv x0, .int x5] h (fun h8 => xext h h8 → tg h8 (fR h8 x0 3105) = 100 ∧ vp_in x5 (ln h8 (fR h8 x0 3105)) ∧ bX12_checkTransfer_122 G fr lo x0 x1 x3 x4 (aI h8 (fR h8 x0 3105) (Int32.toNatClampNeg x5)) s0 x5 h8 Q) (fun r h2 => Q (.threw r) h2)))
set_option maxRecDepth 100000 in
theorem uX12_checkTransfer_57 {G : xG} {fr lo : Nat} {x0 : Nat} {x1 : Int32} {x3 : Int32} {x4 : Int32} {x5 : Int32} {s0 : Nat} {h : xH} {Q : Outcome → xH → Prop} (hq : bX12_checkTransfer_57 G fr lo x0 x1 x3 x4 x5 s0 h Q) : xP G YX12_checkTransfer fr lo 57 [(0, rv x0), (1, .int x1), (3, .int x3), (4, .int x4), (5, .int x5)] [rv s0] h Q := by
  unfold bX12_checkTransfer_57 at hq
  refine x_astore (lv' := [(6, rv s0), (0, rv x0), (1, .int x1), (3, .int x3), (4, .int x4), (5, .int x5)]) dX12_checkTransfer_57 (by decide) rfl ?_
  refine x_iconst (v := (-1)) dX12_checkTransfer_59 (by decide) ?_
  refine x_istore (lv' := [(7, .int (-1)), (6, rv s0), (0, rv x0), (1, .int x1), (3, .int x3), (4, .int x4), (5, .int x5)]) dX12_checkTransfer_60 (by decide) (by first | rfl | (simp [rv_cat, Value.category]; done) | (simp [rv_cat, Value.category]; decide)) ?_
  refine x_aload 1 dX12_checkTransfer_62 rfl ?_
  refine x_ifnull (tgt := 89) dX12_checkTransfer_64 (by decide) (fun c1 => ?_) (fun c1 => ?_)
  · replace hq := hq.1 c1
    refine x_iload_n 4 dX12_checkTransfer_89 rfl ?_
    refine x_if_eq (tgt := 100) dX12_checkTransfer_90 (by decide) (fun c2 => ?_) (fun c2 => ?_)
    · replace hq := hq.1 c2
      refine x_aload_n 2 dX12_checkTransfer_100 rfl ?_
      obtain ⟨g3, hq⟩ := hq
      refine x_get (v := rv (fR h x0 3130)) fdX12_731 dX12_checkTransfer_101 g3 rfl ?_
      refine xP.pick (lv' := [(0, rv x0), (1, .int x1), (3, .int x3), (4, .int x4), (5, .int x5), (7, .int (-1))]) [2, 3, 4, 5, 6, 0] rfl ?_
      exact uX12_checkTransfer_104 hq
    · replace hq := hq.2 c2
      refine x_aload_n 2 dX12_checkTransfer_93 rfl ?_
      obtain ⟨g4, hq⟩ := hq
      refine x_get (v := rv (fR h x0 3129)) fdX12_727 dX12_checkTransfer_94 g4 rfl ?_
      refine x_goto (tgt := 104) dX12_checkTransfer_97 (by decide) ?_
      refine xP.pick (lv' := [(0, rv x0), (1, .int x1), (3, .int x3), (4, .int x4), (5, .int x5), (7, .int (-1))]) [2, 3, 4, 5, 6, 0] rfl ?_
      exact uX12_checkTransfer_104 hq
  · replace hq := hq.2 c1
    refine x_iload 6 dX12_checkTransfer_67 rfl ?_
    refine x_istore (lv' := [(7, .int x5), (6, rv s0), (0, rv x0), (1, .int x1), (3, .int x3), (4, .int x4), (5, .int x5)]) dX12_checkTransfer_69 (by decide) (by first | rfl | (simp [rv_cat, Value.category]; done) | (simp [rv_cat, Value.category]; decide)) ?_
    refine x_aload_n 2 dX12_checkTransfer_71 rfl ?_
    refine x_iload 6 dX12_checkTransfer_72 rfl ?_
    obtain ⟨g5, hq⟩ := hq
    obtain ⟨g6, g7, hq⟩ := hq
    refine x_callV (Yc := YX12_colon) (as := [.int x5]) (st := []) q4460 mvX12_colon g5 rfl dX12_checkTransfer_74 (xle (xal1 (rv_cat _) (xal1 rfl xal0)) (by decide)) (xfr g6) (xlo xsw0 (by decide) g7) (xKv hq (fun h8 hq e10 => ?_) (fun _ _ q _ => q))
    replace hq := hq e10
    refine x_aload_n 2 dX12_checkTransfer_77 rfl ?_
    have t11 : tg h8 x0 = 13 := e10.tg g5 (by decide)
    refine x_get (v := rv (fR h8 x0 3105)) fdX12_79 dX12_checkTransfer_78 t11 rfl ?_
    refine x_iload 6 dX12_checkTransfer_81 rfl ?_
    obtain ⟨g12, hq⟩ := hq
    obtain ⟨i13, hq⟩ := hq
    refine x_iald 0 (Or.inl rfl) g12 i13 dX12_checkTransfer_83 ?_
    refine x_istore (lv' := [(5, .int (aI h8 (fR h8 x0 3105) (Int32.toNatClampNeg x5))), (7, .int x5), (6, rv s0), (0, rv x0), (1, .int x1), (3, .int x3), (4, .int x4)]) dX12_checkTransfer_84 (by decide) rfl ?_
    refine x_goto (tgt := 122) dX12_checkTransfer_86 (by decide) ?_
    refine xP.pick (lv' := [(0, rv x0), (1, .int x1), (3, .int x3), (4, .int x4), (5, .int (aI h8 (fR h8 x0 3105) (Int32.toNatClampNeg x5))), (6, rv s0), (7, .int x5)]) [3, 4, 5, 6, 0, 2, 1] rfl ?_
    exact uX12_checkTransfer_122 hq
set_option maxRecDepth 100000 in
def bX12_checkTransfer_26 (G : xG) (fr lo : Nat) (x0 : Nat) (x1 : Int32) (x3 : Int32) (s0 : Int32) (h : xH) (Q : Outcome → xH → Prop) : Prop := tg h x0 = 13 ∧ tg h (fR h x0 3103) = 100 ∧ vp_in x1 (ln h (fR h x0 3103)) ∧ ((¬ (aI h (fR h x0 3103) (Int32.toNatClampNeg x1)) = (-1) → vp_in (aI h (fR h x0 3103) (Int32.toNatClampNeg x1)) (ln h (fR h x0 3103)) ∧ 1 ≤ fr ∧ 16 ≤ lo ∧ xRr G YX12_fileOf (fr - 1) (lo - 16) [rv x0, .int (aI h (fR h x0 3103) (Int32.toNatClampNeg (aI h (fR h x0 3103) (Int32.toNatClampNeg x1))))] h (fun x9 h8 => xext h h8 → bX12_checkTransfer_57 G fr lo x0 x1 x3 s0 (aI h (fR h x0 3103) (Int32.toNatClampNeg x1)) x9 h8 Q) (fun r h2 => Q (.threw r) h2)) ∧ ((aI h (fR h x0 3103) (Int32.toNatClampNeg x1)) = (-1) → bX12_checkTransfer_57 G fr lo x0 x1 x3 s0 (aI h (fR h x0 3103) (Int32.toNatClampNeg x1)) 0 h Q))
set_option maxRecDepth 100000 in
theorem uX12_checkTransfer_26 {G : xG} {fr lo : Nat} {x0 : Nat} {x1 : Int32} {x3 : Int32} {s0 : Int32} {h : xH} {Q : Outcome → xH → Prop} (hq : bX12_checkTransfer_26 G fr lo x0 x1 x3 s0 h Q) : xP G YX12_checkTransfer fr lo 26 [(0, rv x0), (1, .int x1), (3, .int x3)] [.int s0] h Q := by
  unfold bX12_checkTransfer_26 at hq
  refine x_istore (lv' := [(4, .int s0), (0, rv x0), (1, .int x1), (3, .int x3)]) dX12_checkTransfer_26 (by decide) rfl ?_
  refine x_aload_n 1 dX12_checkTransfer_28 rfl ?_
  obtain ⟨g1, hq⟩ := hq
  refine x_get (v := rv (fR h x0 3103)) fdX12_73 dX12_checkTransfer_29 g1 rfl ?_
  refine x_iload_n 2 dX12_checkTransfer_32 rfl ?_
  obtain ⟨g2, hq⟩ := hq
  obtain ⟨i3, hq⟩ := hq
  refine x_iald 0 (Or.inl rfl) g2 i3 dX12_checkTransfer_33 ?_
  refine x_istore (lv' := [(5, .int (aI h (fR h x0 3103) (Int32.toNatClampNeg x1))), (4, .int s0), (0, rv x0), (1, .int x1), (3, .int x3)]) dX12_checkTransfer_34 (by decide) rfl ?_
  refine x_iload 0 dX12_checkTransfer_36 rfl ?_
  refine x_iconst (v := (-1)) dX12_checkTransfer_38 (by decide) ?_
  refine x_icmp_ne (tgt := 46) dX12_checkTransfer_39 (by decide) (fun c4 => ?_) (fun c4 => ?_)
  · replace hq := hq.1 c4
    refine x_aload_n 2 dX12_checkTransfer_46 rfl ?_
    refine x_aload_n 2 dX12_checkTransfer_47 rfl ?_
    refine x_get (v := rv (fR h x0 3103)) fdX12_73 dX12_checkTransfer_48 g1 rfl ?_
    refine x_iload 0 dX12_checkTransfer_51 rfl ?_
    obtain ⟨i5, hq⟩ := hq
    refine x_iald 0 (Or.inl rfl) g2 i5 dX12_checkTransfer_53 ?_
    obtain ⟨g6, g7, hq⟩ := hq
    refine x_callV (Yc := YX12_fileOf) (as := [.int (aI h (fR h x0 3103) (Int32.toNatClampNeg (aI h (fR h x0 3103) (Int32.toNatClampNeg x1))))]) (st := []) q4344 mvX12_fileOf g1 rfl dX12_checkTransfer_54 (xle (xal1 (rv_cat _) (xal1 rfl xal0)) (by decide)) (xfr g6) (xlo xsw0 (by decide) g7) (xKr hq (fun x9 h8 hq e10 => ?_) (fun _ _ q _ => q))
    replace hq := hq e10
    refine xP.pick (lv' := [(0, rv x0), (1, .int x1), (3, .int x3), (4, .int s0), (5, .int (aI h (fR h x0 3103) (Int32.toNatClampNeg x1)))]) [2, 3, 4, 1, 0] rfl ?_
    exact uX12_checkTransfer_57 hq
  · replace hq := hq.2 c4
    refine x_null dX12_checkTransfer_42 ?_
    refine x_goto (tgt := 57) dX12_checkTransfer_43 (by decide) ?_
    refine xP.pick (lv' := [(0, rv x0), (1, .int x1), (3, .int x3), (4, .int s0), (5, .int (aI h (fR h x0 3103) (Int32.toNatClampNeg x1)))]) [2, 3, 4, 1, 0] rfl ?_
    exact uX12_checkTransfer_57 hq
set_option maxRecDepth 100000 in
def bX12_checkTransfer_21 (G : xG) (fr lo : Nat) (x0 : Nat) (x1 : Int32) (x3 : Int32) (h : xH) (Q : Outcome → xH → Prop) : Prop := bX12_checkTransfer_26 G fr lo x0 x1 x3 1 h Q
set_option maxRecDepth 100000 in
theorem uX12_checkTransfer_21 {G : xG} {fr lo : Nat} {x0 : Nat} {x1 : Int32} {x3 : Int32} {h : xH} {Q : Outcome → xH → Prop} (hq : bX12_checkTransfer_21 G fr lo x0 x1 x3 h Q) : xP G YX12_checkTransfer fr lo 21 [(0, rv x0), (1, .int x1), (3, .int x3)] [] h Q := by
  unfold bX12_checkTransfer_21 at hq
  refine x_iconst (v := 1) dX12_checkTransfer_21 (by decide) ?_
  refine x_goto (tgt := 26) dX12_checkTransfer_22 (by decide) ?_
  exact uX12_checkTransfer_26 hq
set_option maxRecDepth 100000 in
def bX12_checkTransfer_10 (G : xG) (fr lo : Nat) (x0 : Nat) (x1 : Int32) (x2 : Int32) (s0 : Int32) (h : xH) (Q : Outcome → xH → Prop) : Prop := ((x2 = 2 → bX12_checkTransfer_21 G fr lo x0 x1 s0 h Q) ∧ (¬ x2 = 2 → ((¬ x2 = 4 → bX12_checkTransfer_26 G fr lo x0 x1 s0 0 h Q) ∧ (x2 = 4 → bX12_checkTransfer_21 G fr lo x0 x1 s0 h Q))))
set_option maxRecDepth 100000 in
theorem uX12_checkTransfer_10 {G : xG} {fr lo : Nat} {x0 : Nat} {x1 : Int32} {x2 : Int32} {s0 : Int32} {h : xH} {Q : Outcome → xH → Prop} (hq : bX12_checkTransfer_10 G fr lo x0 x1 x2 s0 h Q) : xP G YX12_checkTransfer fr lo 10 [(0, rv x0), (1, .int x1), (2, .int x2)] [.int s0] h Q := by
  unfold bX12_checkTransfer_10 at hq
  refine x_istore_n (lv' := [(3, .int s0), (0, rv x0), (1, .int x1), (2, .int x2)]) dX12_checkTransfer_10 (by decide) rfl ?_
  refine x_iload_n 3 dX12_checkTransfer_11 rfl ?_
  refine x_iconst (v := 2) dX12_checkTransfer_12 (by decide) ?_
  refine x_icmp_eq (tgt := 21) dX12_checkTransfer_13 (by decide) (fun c1 => ?_) (fun c1 => ?_)
  · replace hq := hq.1 c1
    refine xP.pick (lv' := [(0, rv x0), (1, .int x1), (3, .int s0)]) [1, 2, 0] rfl ?_
    exact uX12_checkTransfer_21 hq
  · replace hq := hq.2 c1
    refine x_iload_n 3 dX12_checkTransfer_16 rfl ?_
    refine x_iconst (v := 4) dX12_checkTransfer_17 (by decide) ?_
    refine x_icmp_ne (tgt := 25) dX12_checkTransfer_18 (by decide) (fun c2 => ?_) (fun c2 => ?_)
    · replace hq := hq.1 c2
      refine x_iconst (v := 0) dX12_checkTransfer_25 (by decide) ?_
      refine xP.pick (lv' := [(0, rv x0), (1, .int x1), (3, .int s0)]) [1, 2, 0] rfl ?_
      exact uX12_checkTransfer_26 hq
    · replace hq := hq.2 c2
      refine xP.pick (lv' := [(0, rv x0), (1, .int x1), (3, .int s0)]) [1, 2, 0] rfl ?_
      exact uX12_checkTransfer_21 hq
set_option maxRecDepth 100000 in
def bX12_checkTransfer (G : xG) (fr lo : Nat) (x0 : Nat) (x1 : Int32) (x2 : Int32) (h : xH) (Q : Outcome → xH → Prop) : Prop := ((2 < x2 → bX12_checkTransfer_10 G fr lo x0 x1 x2 0 h Q) ∧ (¬ 2 < x2 → bX12_checkTransfer_10 G fr lo x0 x1 x2 1 h Q))
set_option maxRecDepth 100000 in
theorem uX12_checkTransfer {G : xG} {fr lo : Nat} {x0 : Nat} {x1 : Int32} {x2 : Int32} {h : xH} {Q : Outcome → xH → Prop} (hq : bX12_checkTransfer G fr lo x0 x1 x2 h Q) : xP G YX12_checkTransfer fr lo 0 [(0, rv x0), (1, .int x1), (2, .int x2)] [] h Q := by
  unfold bX12_checkTransfer at hq
  refine x_iload_n 2 dX12_checkTransfer_0 rfl ?_
  refine x_iconst (v := 2) dX12_checkTransfer_1 (by decide) ?_
  refine x_icmp_gt (tgt := 9) dX12_checkTransfer_2 (by decide) (fun c1 => ?_) (fun c1 => ?_)
  · replace hq := hq.1 c1
    refine x_iconst (v := 0) dX12_checkTransfer_9 (by decide) ?_
    exact uX12_checkTransfer_10 hq
  · replace hq := hq.2 c1
    refine x_iconst (v := 1) dX12_checkTransfer_5 (by decide) ?_
    refine x_goto (tgt := 10) dX12_checkTransfer_6 (by decide) ?_
    exact uX12_checkTransfer_10 hq
theorem rX12_checkTransfer {G : xG} {fr lo : Nat} {x0 : Nat} {x1 : Int32} {x2 : Int32} {h : xH} {Q : Outcome → xH → Prop} (hq : bX12_checkTransfer G fr lo x0 x1 x2 h Q) : xR G YX12_checkTransfer fr lo [rv x0, .int x1, .int x2] h Q := by
  show xP _ _ _ _ _ (lv_args 0 _) _ _ _
  rw [show lv_args 0 [rv x0, .int x1, .int x2] = [(0, rv x0), (1, .int x1), (2, .int x2)] from (xla1 (rv_cat _) (xla1 rfl (xla1 rfl xla0)))]
  exact uX12_checkTransfer hq
set_option maxRecDepth 100000 in
theorem dX12_colon_0 : decode cX12_colon 0 = .ok (.aload_n 0, 1) := by decide +kernel
set_option maxRecDepth 100000 in
theorem dX12_colon_1 : decode cX12_colon 1 = .ok (.getfield 82, 3) := by decide +kernel
set_option maxRecDepth 100000 in
theorem dX12_colon_4 : decode cX12_colon 4 = .ok (.iload_n 1, 1) := by decide +kernel
set_option maxRecDepth 100000 in
theorem dX12_colon_5 : decode cX12_colon 5 = .ok (.iaload, 1) := by decide +kernel
set_option maxRecDepth 100000 in
theorem dX12_colon_6 : decode cX12_colon 6 = .ok (.iconst (-1), 1) := by decide +kernel
set_option maxRecDepth 100000 in
theorem dX12_colon_7 : decode cX12_colon 7 = .ok (.if_icmp .eq 15, 3) := by decide +kernel
set_option maxRecDepth 100000 in
theorem dX12_colon_10 : decode cX12_colon 10 = .ok (.aload_n 0, 1) := by decide +kernel
set_option maxRecDepth 100000 in
theorem dX12_colon_11 : decode cX12_colon 11 = .ok (.bipush 7, 2) := by decide +kernel
set_option maxRecDepth 100000 in
theorem dX12_colon_13 : decode cX12_colon 13 = .ok (.aload_n 0, 1) := by decide +kernel
set_option maxRecDepth 100000 in
theorem dX12_colon_14 : decode cX12_colon 14 = .ok (.getfield 82, 3) := by decide +kernel
set_option maxRecDepth 100000 in
theorem dX12_colon_17 : decode cX12_colon 17 = .ok (.iload_n 1, 1) := by decide +kernel
set_option maxRecDepth 100000 in
theorem dX12_colon_18 : decode cX12_colon 18 = .ok (.iaload, 1) := by decide +kernel
set_option maxRecDepth 100000 in
theorem dX12_colon_19 : decode cX12_colon 19 = .ok (.invokevirtual 570, 3) := by decide +kernel
set_option maxRecDepth 100000 in
theorem dX12_colon_22 : decode cX12_colon 22 = .ok (.return_, 1) := by decide +kernel
set_option maxRecDepth 100000 in
def bX12_colon_22 (G : xG) (fr lo : Nat) (h : xH) (Q : Outcome → xH → Prop) : Prop := Q (.returned none) h
set_option maxRecDepth 100000 in
theorem uX12_colon_22 {G : xG} {fr lo : Nat} {h : xH} {Q : Outcome → xH → Prop} (hq : bX12_colon_22 G fr lo h Q) : xP G YX12_colon fr lo 22 [] [] h Q := by
  unfold bX12_colon_22 at hq
  exact x_vret rfl dX12_colon_22 hq
set_option maxRecDepth 100000 in
def bX12_colon (G : xG) (fr lo : Nat) (x0 : Nat) (x1 : Int32) (h : xH) (Q : Outcome → xH → Prop) : Prop := tg h x0 = 13 ∧ tg h (fR h x0 3106) = 100 ∧ vp_in x1 (ln h (fR h x0 3106)) ∧ (((aI h (fR h x0 3106) (Int32.toNatClampNeg x1)) = (-1) → bX12_colon_22 G fr lo h Q) ∧ (¬ (aI h (fR h x0 3106) (Int32.toNatClampNeg x1)) = (-1) → vp_in x1 (ln h (fR h x0 3106)) ∧ 1 ≤ fr ∧ 14 ≤ lo ∧ xRv G YX12_refuse (fr - 1) (lo - 14) [rv x0, .int 7, .int (aI h (fR h x0 3106) (Int32.toNatClampNeg x1))] h (fun h8 => xext h h8 → bX12_colon_22 G fr lo h8 Q) (fun r h2 => Q (.threw r) h2)))
set_option maxRecDepth 100000 in
theorem uX12_colon {G : xG} {fr lo : Nat} {x0 : Nat} {x1 : Int32} {h : xH} {Q : Outcome → xH → Prop} (hq : bX12_colon G fr lo x0 x1 h Q) : xP G YX12_colon fr lo 0 [(0, rv x0), (1, .int x1)] [] h Q := by
  unfold bX12_colon at hq
  refine x_aload_n 0 dX12_colon_0 rfl ?_
  obtain ⟨g1, hq⟩ := hq
  refine x_get (v := rv (fR h x0 3106)) fdX12_82 dX12_colon_1 g1 rfl ?_
  refine x_iload_n 1 dX12_colon_4 rfl ?_
  obtain ⟨g2, hq⟩ := hq
  obtain ⟨i3, hq⟩ := hq
  refine x_iald 0 (Or.inl rfl) g2 i3 dX12_colon_5 ?_
  refine x_iconst (v := (-1)) dX12_colon_6 (by decide) ?_
  refine x_icmp_eq (tgt := 22) dX12_colon_7 (by decide) (fun c4 => ?_) (fun c4 => ?_)
  · replace hq := hq.1 c4
    refine xP.pick (lv' := []) [] rfl ?_
    exact uX12_colon_22 hq
  · replace hq := hq.2 c4
    refine x_aload_n 0 dX12_colon_10 rfl ?_
    refine x_bipush (v := 7) dX12_colon_11 (by decide) ?_
    refine x_aload_n 0 dX12_colon_13 rfl ?_
    refine x_get (v := rv (fR h x0 3106)) fdX12_82 dX12_colon_14 g1 rfl ?_
    refine x_iload_n 1 dX12_colon_17 rfl ?_
    obtain ⟨i5, hq⟩ := hq
    refine x_iald 0 (Or.inl rfl) g2 i5 dX12_colon_18 ?_
    obtain ⟨g6, g7, hq⟩ := hq
    refine x_callV (Yc := YX12_refuse) (as := [.int 7, .int (aI h (fR h x0 3106) (Int32.toNatClampNeg x1))]) (st := []) q4095 mvX12_refuse g1 rfl dX12_colon_19 (xle (xal1 (rv_cat _) (xal1 rfl (xal1 rfl xal0))) (by decide)) (xfr g6) (xlo xsw0 (by decide) g7) (xKv hq (fun h8 hq e10 => ?_) (fun _ _ q _ => q))
    replace hq := hq e10
    refine xP.pick (lv' := []) [] rfl ?_
    exact uX12_colon_22 hq
theorem rX12_colon {G : xG} {fr lo : Nat} {x0 : Nat} {x1 : Int32} {h : xH} {Q : Outcome → xH → Prop} (hq : bX12_colon G fr lo x0 x1 h Q) : xR G YX12_colon fr lo [rv x0, .int x1] h Q := by
  show xP _ _ _ _ _ (lv_args 0 _) _ _ _
  rw [show lv_args 0 [rv x0, .int x1] = [(0, rv x0), (1, .int x1)] from (xla1 (rv_cat _) (xla1 rfl xla0))]
  exact uX12_colon hq
set_option maxRecDepth 100000 in
theorem dX12_checkRead_0 : decode cX12_checkRead 0 = .ok (.aload_n 0, 1) := by decide +kernel
set_option maxRecDepth 100000 in
theorem dX12_checkRead_1 : decode cX12_checkRead 1 = .ok (.getfield 73, 3) := by decide +kernel
set_option maxRecDepth 100000 in
theorem dX12_checkRead_4 : decode cX12_checkRead 4 = .ok (.iload_n 1, 1) := by decide +kernel
set_option maxRecDepth 100000 in
theorem dX12_checkRead_5 : decode cX12_checkRead 5 = .ok (.iaload, 1) := by decide +kernel
set_option maxRecDepth 100000 in
theorem dX12_checkRead_6 : decode cX12_checkRead 6 = .ok (.istore_n 3, 1) := by decide +kernel
set_option maxRecDepth 100000 in
theorem dX12_checkRead_7 : decode cX12_checkRead 7 = .ok (.aload_n 0, 1) := by decide +kernel
set_option maxRecDepth 100000 in
theorem dX12_checkRead_8 : decode cX12_checkRead 8 = .ok (.iload_n 3, 1) := by decide +kernel
set_option maxRecDepth 100000 in
theorem dX12_checkRead_9 : decode cX12_checkRead 9 = .ok (.invokevirtual 1028, 3) := by decide +kernel
set_option maxRecDepth 100000 in
theorem dX12_checkRead_12 : decode cX12_checkRead 12 = .ok (.astore 4, 2) := by decide +kernel
set_option maxRecDepth 100000 in
theorem dX12_checkRead_14 : decode cX12_checkRead 14 = .ok (.aload_n 2, 1) := by decide +kernel
set_option maxRecDepth 100000 in
theorem dX12_checkRead_15 : decode cX12_checkRead 15 = .ok (.invokevirtual 1040, 3) := by decide +kernel
set_option maxRecDepth 100000 in
theorem dX12_checkRead_18 : decode cX12_checkRead 18 = .ok (.ifCond .eq 44, 3) := by decide +kernel
set_option maxRecDepth 100000 in
theorem dX12_checkRead_21 : decode cX12_checkRead 21 = .ok (.aload 4, 2) := by decide +kernel
set_option maxRecDepth 100000 in
theorem dX12_checkRead_23 : decode cX12_checkRead 23 = .ok (.invokevirtual 867, 3) := by decide +kernel
set_option maxRecDepth 100000 in
theorem dX12_checkRead_26 : decode cX12_checkRead 26 = .ok (.aload_n 0, 1) := by decide +kernel
set_option maxRecDepth 100000 in
theorem dX12_checkRead_27 : decode cX12_checkRead 27 = .ok (.getfield 109, 3) := by decide +kernel
set_option maxRecDepth 100000 in
theorem dX12_checkRead_30 : decode cX12_checkRead 30 = .ok (.if_acmp .eq 24, 3) := by decide +kernel
set_option maxRecDepth 100000 in
theorem dX12_checkRead_33 : decode cX12_checkRead 33 = .ok (.aload 4, 2) := by decide +kernel
set_option maxRecDepth 100000 in
theorem dX12_checkRead_35 : decode cX12_checkRead 35 = .ok (.aload_n 0, 1) := by decide +kernel
set_option maxRecDepth 100000 in
theorem dX12_checkRead_36 : decode cX12_checkRead 36 = .ok (.getfield 113, 3) := by decide +kernel
set_option maxRecDepth 100000 in
theorem dX12_checkRead_39 : decode cX12_checkRead 39 = .ok (.if_acmp .eq 15, 3) := by decide +kernel
set_option maxRecDepth 100000 in
theorem dX12_checkRead_42 : decode cX12_checkRead 42 = .ok (.aload 4, 2) := by decide +kernel
set_option maxRecDepth 100000 in
theorem dX12_checkRead_44 : decode cX12_checkRead 44 = .ok (.invokevirtual 867, 3) := by decide +kernel
set_option maxRecDepth 100000 in
theorem dX12_checkRead_47 : decode cX12_checkRead 47 = .ok (.aload_n 0, 1) := by decide +kernel
set_option maxRecDepth 100000 in
theorem dX12_checkRead_48 : decode cX12_checkRead 48 = .ok (.getfield 119, 3) := by decide +kernel
set_option maxRecDepth 100000 in
theorem dX12_checkRead_51 : decode cX12_checkRead 51 = .ok (.if_acmp .ne 7, 3) := by decide +kernel
set_option maxRecDepth 100000 in
theorem dX12_checkRead_54 : decode cX12_checkRead 54 = .ok (.iconst 1, 1) := by decide +kernel
set_option maxRecDepth 100000 in
theorem dX12_checkRead_55 : decode cX12_checkRead 55 = .ok (.goto 17, 3) := by decide +kernel
set_option maxRecDepth 100000 in
theorem dX12_checkRead_58 : decode cX12_checkRead 58 = .ok (.iconst 0, 1) := by decide +kernel
set_option maxRecDepth 100000 in
theorem dX12_checkRead_59 : decode cX12_checkRead 59 = .ok (.goto 13, 3) := by decide +kernel
set_option maxRecDepth 100000 in
theorem dX12_checkRead_62 : decode cX12_checkRead 62 = .ok (.aload_n 0, 1) := by decide +kernel
set_option maxRecDepth 100000 in
theorem dX12_checkRead_63 : decode cX12_checkRead 63 = .ok (.aload_n 2, 1) := by decide +kernel
set_option maxRecDepth 100000 in
theorem dX12_checkRead_64 : decode cX12_checkRead 64 = .ok (.getfield 598, 3) := by decide +kernel
set_option maxRecDepth 100000 in
theorem dX12_checkRead_67 : decode cX12_checkRead 67 = .ok (.aload 4, 2) := by decide +kernel
set_option maxRecDepth 100000 in
theorem dX12_checkRead_69 : decode cX12_checkRead 69 = .ok (.invokevirtual 999, 3) := by decide +kernel
set_option maxRecDepth 100000 in
theorem dX12_checkRead_72 : decode cX12_checkRead 72 = .ok (.istore 5, 2) := by decide +kernel
set_option maxRecDepth 100000 in
theorem dX12_checkRead_74 : decode cX12_checkRead 74 = .ok (.iload 5, 2) := by decide +kernel
set_option maxRecDepth 100000 in
theorem dX12_checkRead_76 : decode cX12_checkRead 76 = .ok (.ifCond .ne 15, 3) := by decide +kernel
set_option maxRecDepth 100000 in
theorem dX12_checkRead_79 : decode cX12_checkRead 79 = .ok (.aload_n 0, 1) := by decide +kernel
set_option maxRecDepth 100000 in
theorem dX12_checkRead_80 : decode cX12_checkRead 80 = .ok (.bipush 7, 2) := by decide +kernel
set_option maxRecDepth 100000 in
theorem dX12_checkRead_82 : decode cX12_checkRead 82 = .ok (.aload_n 0, 1) := by decide +kernel
set_option maxRecDepth 100000 in
theorem dX12_checkRead_83 : decode cX12_checkRead 83 = .ok (.getfield 70, 3) := by decide +kernel
set_option maxRecDepth 100000 in
theorem dX12_checkRead_86 : decode cX12_checkRead 86 = .ok (.iload_n 3, 1) := by decide +kernel
set_option maxRecDepth 100000 in
theorem dX12_checkRead_87 : decode cX12_checkRead 87 = .ok (.iaload, 1) := by decide +kernel
set_option maxRecDepth 100000 in
theorem dX12_checkRead_88 : decode cX12_checkRead 88 = .ok (.invokevirtual 570, 3) := by decide +kernel
set_option maxRecDepth 100000 in
theorem dX12_checkRead_91 : decode cX12_checkRead 91 = .ok (.aload_n 0, 1) := by decide +kernel
set_option maxRecDepth 100000 in
theorem dX12_checkRead_92 : decode cX12_checkRead 92 = .ok (.iload_n 3, 1) := by decide +kernel
set_option maxRecDepth 100000 in
theorem dX12_checkRead_93 : decode cX12_checkRead 93 = .ok (.invokevirtual 1022, 3) := by decide +kernel
set_option maxRecDepth 100000 in
theorem dX12_checkRead_96 : decode cX12_checkRead 96 = .ok (.istore 6, 2) := by decide +kernel
set_option maxRecDepth 100000 in
theorem dX12_checkRead_98 : decode cX12_checkRead 98 = .ok (.aload_n 0, 1) := by decide +kernel
set_option maxRecDepth 100000 in
theorem dX12_checkRead_99 : decode cX12_checkRead 99 = .ok (.getfield 73, 3) := by decide +kernel
set_option maxRecDepth 100000 in
theorem dX12_checkRead_102 : decode cX12_checkRead 102 = .ok (.iload 6, 2) := by decide +kernel
set_option maxRecDepth 100000 in
theorem dX12_checkRead_104 : decode cX12_checkRead 104 = .ok (.iaload, 1) := by decide +kernel
set_option maxRecDepth 100000 in
theorem dX12_checkRead_105 : decode cX12_checkRead 105 = .ok (.iconst (-1), 1) := by decide +kernel
set_option maxRecDepth 100000 in
theorem dX12_checkRead_106 : decode cX12_checkRead 106 = .ok (.if_icmp .ne 21, 3) := by decide +kernel
set_option maxRecDepth 100000 in
theorem dX12_checkRead_109 : decode cX12_checkRead 109 = .ok (.aload_n 0, 1) := by decide +kernel
set_option maxRecDepth 100000 in
theorem dX12_checkRead_110 : decode cX12_checkRead 110 = .ok (.aload_n 0, 1) := by decide +kernel
set_option maxRecDepth 100000 in
theorem dX12_checkRead_111 : decode cX12_checkRead 111 = .ok (.getfield 102, 3) := by decide +kernel
set_option maxRecDepth 100000 in
theorem dX12_checkRead_114 : decode cX12_checkRead 114 = .ok (.iload 6, 2) := by decide +kernel
set_option maxRecDepth 100000 in
theorem dX12_checkRead_116 : decode cX12_checkRead 116 = .ok (.aaload, 1) := by decide +kernel
set_option maxRecDepth 100000 in
theorem dX12_checkRead_117 : decode cX12_checkRead 117 = .ok (.aload_n 0, 1) := by decide +kernel
set_option maxRecDepth 100000 in
theorem dX12_checkRead_118 : decode cX12_checkRead 118 = .ok (.getfield 70, 3) := by decide +kernel
set_option maxRecDepth 100000 in
theorem dX12_checkRead_121 : decode cX12_checkRead 121 = .ok (.iload 6, 2) := by decide +kernel
set_option maxRecDepth 100000 in
theorem dX12_checkRead_123 : decode cX12_checkRead 123 = .ok (.iaload, 1) := by decide +kernel
set_option maxRecDepth 100000 in
theorem dX12_checkRead_124 : decode cX12_checkRead 124 = .ok (.invokevirtual 1009, 3) := by decide +kernel
set_option maxRecDepth 100000 in
theorem dX12_checkRead_127 : decode cX12_checkRead 127 = .ok (.aload_n 0, 1) := by decide +kernel
set_option maxRecDepth 100000 in
theorem dX12_checkRead_128 : decode cX12_checkRead 128 = .ok (.iload_n 1, 1) := by decide +kernel
set_option maxRecDepth 100000 in
theorem dX12_checkRead_129 : decode cX12_checkRead 129 = .ok (.invokevirtual 1019, 3) := by decide +kernel
set_option maxRecDepth 100000 in
theorem dX12_checkRead_132 : decode cX12_checkRead 132 = .ok (.return_, 1) := by decide +kernel
set_option maxRecDepth 100000 in
def bX12_checkRead_127 (G : xG) (fr lo : Nat) (x0 : Nat) (x1 : Int32) (h : xH) (Q : Outcome → xH → Prop) : Prop := tg h x0 = 13 ∧ 1 ≤ fr ∧ 13 ≤ lo ∧ xRv G YX12_colon (fr - 1) (lo - 13) [rv x0, .int x1] h (fun h4 => xext h h4 → Q (.returned none) h4) (fun r h2 => Q (.threw r) h2)
set_option maxRecDepth 100000 in
theorem uX12_checkRead_127 {G : xG} {fr lo : Nat} {x0 : Nat} {x1 : Int32} {h : xH} {Q : Outcome → xH → Prop} (hq : bX12_checkRead_127 G fr lo x0 x1 h Q) : xP G YX12_checkRead fr lo 127 [(0, rv x0), (1, .int x1)] [] h Q := by
  unfold bX12_checkRead_127 at hq
  refine x_aload_n 0 dX12_checkRead_127 rfl ?_
  refine x_iload_n 1 dX12_checkRead_128 rfl ?_
  obtain ⟨g1, hq⟩ := hq
  obtain ⟨g2, g3, hq⟩ := hq
  refine x_callV (Yc := YX12_colon) (as := [.int x1]) (st := []) q4460 mvX12_colon g1 rfl dX12_checkRead_129 (xle (xal1 (rv_cat _) (xal1 rfl xal0)) (by decide)) (xfr g2) (xlo xsw0 (by decide) g3) (xKv hq (fun h4 hq e6 => ?_) (fun _ _ q _ => q))
  replace hq := hq e6
  exact x_vret rfl dX12_checkRead_132 hq
set_option maxRecDepth 100000 in
def bX12_checkRead_91 (G : xG) (fr lo : Nat) (x0 : Nat) (x1 : Int32) (x3 : Int32) (h : xH) (Q : Outcome → xH → Prop) : Prop := tg h x0 = 13 ∧ 1 ≤ fr ∧ 15 ≤ lo ∧ xRi G YX12_loneVariable (fr - 1) (lo - 15) [rv x0, .int x3] h (fun x5 h4 => xext h h4 → tg h4 (fR h4 x0 3103) = 100 ∧ vp_in x5 (ln h4 (fR h4 x0 3103)) ∧ ((¬ (aI h4 (fR h4 x0 3103) (Int32.toNatClampNeg x5)) = (-1) → bX12_checkRead_127 G fr lo x0 x1 h4 Q) ∧ ((aI h4 (fR h4 x0 3103) (Int32.toNatClampNeg x5)) = (-1) → tg h4 (fR h4 x0 3114) = 109 ∧ vp_in x5 (ln h4 (fR h4 x0 3114)) ∧ tg h4 (fR h4 x0 3102) = 100 ∧ vp_in x5 (ln h4 (fR h4 x0 3102)) ∧ 1 ≤ fr ∧ 14 ≤ lo ∧ xRv G YX12_threaten (fr - 1) (lo - 14) [rv x0, rv (aR h4 (fR h4 x0 3114) (Int32.toNatClampNeg x5)), .int (aI h4 (fR h4 x0 3102) (Int32.toNatClampNeg x5))] h4 (fun h17 => xext h4 h17 → bX12_checkRead_127 G fr lo x0 x1 h17 Q) (fun r h2 => Q (.threw r) h2)))) (fun r h2 => Q (.threw r) h2)
set_option maxRecDepth 100000 in
theorem uX12_checkRead_91 {G : xG} {fr lo : Nat} {x0 : Nat} {x1 : Int32} {x3 : Int32} {h : xH} {Q : Outcome → xH → Prop} (hq : bX12_checkRead_91 G fr lo x0 x1 x3 h Q) : xP G YX12_checkRead fr lo 91 [(0, rv x0), (1, .int x1), (3, .int x3)] [] h Q := by
  unfold bX12_checkRead_91 at hq
  refine x_aload_n 0 dX12_checkRead_91 rfl ?_
  refine x_iload_n 2 dX12_checkRead_92 rfl ?_
  obtain ⟨g1, hq⟩ := hq
  obtain ⟨g2, g3, hq⟩ := hq
  refine x_callV (Yc := YX12_loneVariable) (as := [.int x3]) (st := []) q4348 mvX12_loneVariable g1 rfl dX12_checkRead_93 (xle (xal1 (rv_cat _) (xal1 rfl xal0)) (by decide)) (xfr g2) (xlo xsw0 (by decide) g3) (xKi hq (fun x5 h4 hq e6 => ?_) (fun _ _ q _ => q))
  replace hq := hq e6
  refine x_istore (lv' := [(6, .int x5), (0, rv x0), (1, .int x1), (3, .int x3)]) dX12_checkRead_96 (by decide) rfl ?_
  refine x_aload_n 1 dX12_checkRead_98 rfl ?_
  have t7 : tg h4 x0 = 13 := e6.tg g1 (by decide)
  refine x_get (v := rv (fR h4 x0 3103)) fdX12_73 dX12_checkRead_99 t7 rfl ?_
  refine x_iload 0 dX12_checkRead_102 rfl ?_
  obtain ⟨g8, hq⟩ := hq
  obtain ⟨i9, hq⟩ := hq
  refine x_iald 0 (Or.inl rfl) g8 i9 dX12_checkRead_104 ?_
  refine x_iconst (v := (-1)) dX12_checkRead_105 (by decide) ?_
  refine x_icmp_ne (tgt := 127) dX12_checkRead_106 (by decide) (fun c10 => ?_) (fun c10 => ?_)
  · replace hq := hq.1 c10
    refine xP.pick (lv' := [(0, rv x0), (1, .int x1)]) [1, 2] rfl ?_
    exact uX12_checkRead_127 hq
  · replace hq := hq.2 c10
    refine x_aload_n 1 dX12_checkRead_109 rfl ?_
    refine x_aload_n 1 dX12_checkRead_110 rfl ?_
    refine x_get (v := rv (fR h4 x0 3114)) fdX12_102 dX12_checkRead_111 t7 rfl ?_
    refine x_iload 0 dX12_checkRead_114 rfl ?_
    obtain ⟨g11, hq⟩ := hq
    obtain ⟨i12, hq⟩ := hq
    refine x_aald 9 rfl g11 (by decide) i12 dX12_checkRead_116 ?_
    refine x_aload_n 1 dX12_checkRead_117 rfl ?_
    refine x_get (v := rv (fR h4 x0 3102)) fdX12_70 dX12_checkRead_118 t7 rfl ?_
    refine x_iload 0 dX12_checkRead_121 rfl ?_
    obtain ⟨g13, hq⟩ := hq
    obtain ⟨i14, hq⟩ := hq
    refine x_iald 0 (Or.inl rfl) g13 i14 dX12_checkRead_123 ?_
    obtain ⟨g15, g16, hq⟩ := hq
    refine x_callV (Yc := YX12_threaten) (as := [rv (aR h4 (fR h4 x0 3114) (Int32.toNatClampNeg x5)), .int (aI h4 (fR h4 x0 3102) (Int32.toNatClampNeg x5))]) (st := []) q4389 mvX12_threaten t7 rfl dX12_checkRead_124 (xle (xal1 (rv_cat _) (xal1 (rv_cat _) (xal1 rfl xal0))) (by decide)) (xfr g15) (xlo xsw0 (by decide) g16) (xKv hq (fun h17 hq e19 => ?_) (fun _ _ q _ => q))
    replace hq := hq e19
    refine xP.pick (lv' := [(0, rv x0), (1, .int x1)]) [1, 2] rfl ?_
    exact uX12_checkRead_127 hq
set_option maxRecDepth 100000 in
def bX12_checkRead_72 (G : xG) (fr lo : Nat) (x0 : Nat) (x1 : Int32) (x3 : Int32) (s0 : Int32) (h : xH) (Q : Outcome → xH → Prop) : Prop := ((¬ s0 = 0 → bX12_checkRead_91 G fr lo x0 x1 x3 h Q) ∧ (s0 = 0 → tg h x0 = 13 ∧ tg h (fR h x0 3102) = 100 ∧ vp_in x3 (ln h (fR h x0 3102)) ∧ 1 ≤ fr ∧ 14 ≤ lo ∧ xRv G YX12_refuse (fr - 1) (lo - 14) [rv x0, .int 7, .int (aI h (fR h x0 3102) (Int32.toNatClampNeg x3))] h (fun h7 => xext h h7 → bX12_checkRead_91 G fr lo x0 x1 x3 h7 Q) (fun r h2 => Q (.threw r) h2)))
set_option maxRecDepth 100000 in
theorem uX12_checkRead_72 {G : xG} {fr lo : Nat} {x0 : Nat} {x1 : Int32} {x3 : Int32} {s0 : Int32} {h : xH} {Q : Outcome → xH → Prop} (hq : bX12_checkRead_72 G fr lo x0 x1 x3 s0 h Q) : xP G YX12_checkRead fr lo 72 [(0, rv x0), (1, .int x1), (3, .int x3)] [.int s0] h Q := by
  unfold bX12_checkRead_72 at hq
  refine x_istore (lv' := [(5, .int s0), (0, rv x0), (1, .int x1), (3, .int x3)]) dX12_checkRead_72 (by decide) rfl ?_
  refine x_iload 0 dX12_checkRead_74 rfl ?_
  refine x_if_ne (tgt := 91) dX12_checkRead_76 (by decide) (fun c1 => ?_) (fun c1 => ?_)
  · replace hq := hq.1 c1
    refine xP.pick (lv' := [(0, rv x0), (1, .int x1), (3, .int x3)]) [1, 2, 3] rfl ?_
    exact uX12_checkRead_91 hq
  · replace hq := hq.2 c1
    refine x_aload_n 1 dX12_checkRead_79 rfl ?_
    refine x_bipush (v := 7) dX12_checkRead_80 (by decide) ?_
    refine x_aload_n 1 dX12_checkRead_82 rfl ?_
    obtain ⟨g2, hq⟩ := hq
    refine x_get (v := rv (fR h x0 3102)) fdX12_70 dX12_checkRead_83 g2 rfl ?_
    refine x_iload_n 3 dX12_checkRead_86 rfl ?_
    obtain ⟨g3, hq⟩ := hq
    obtain ⟨i4, hq⟩ := hq
    refine x_iald 0 (Or.inl rfl) g3 i4 dX12_checkRead_87 ?_
    obtain ⟨g5, g6, hq⟩ := hq
    refine x_callV (Yc := YX12_refuse) (as := [.int 7, .int (aI h (fR h x0 3102) (Int32.toNatClampNeg x3))]) (st := []) q4095 mvX12_refuse g2 rfl dX12_checkRead_88 (xle (xal1 (rv_cat _) (xal1 rfl (xal1 rfl xal0))) (by decide)) (xfr g5) (xlo xsw0 (by decide) g6) (xKv hq (fun h7 hq e9 => ?_) (fun _ _ q _ => q))
    replace hq := hq e9
    refine xP.pick (lv' := [(0, rv x0), (1, .int x1), (3, .int x3)]) [1, 2, 3] rfl ?_
    exact uX12_checkRead_91 hq
set_option maxRecDepth 100000 in
def bX12_checkRead_54 (G : xG) (fr lo : Nat) (x0 : Nat) (x1 : Int32) (x3 : Int32) (h : xH) (Q : Outcome → xH → Prop) : Prop := bX12_checkRead_72 G fr lo x0 x1 x3 1 h Q
set_option maxRecDepth 100000 in
theorem uX12_checkRead_54 {G : xG} {fr lo : Nat} {x0 : Nat} {x1 : Int32} {x3 : Int32} {h : xH} {Q : Outcome → xH → Prop} (hq : bX12_checkRead_54 G fr lo x0 x1 x3 h Q) : xP G YX12_checkRead fr lo 54 [(0, rv x0), (1, .int x1), (3, .int x3)] [] h Q := by
  unfold bX12_checkRead_54 at hq
  refine x_iconst (v := 1) dX12_checkRead_54 (by decide) ?_
  refine x_goto (tgt := 72) dX12_checkRead_55 (by decide) ?_
  exact uX12_checkRead_72 hq
set_option maxRecDepth 100000 in
def bX12_checkRead (G : xG) (fr lo : Nat) (x0 : Nat) (x1 : Int32) (x2 : Nat) (h : xH) (Q : Outcome → xH → Prop) : Prop := tg h x0 = 13 ∧ tg h (fR h x0 3103) = 100 ∧ vp_in x1 (ln h (fR h x0 3103)) ∧ 1 ≤ fr ∧ 15 ≤ lo ∧ xRr G YX12_target (fr - 1) (lo - 15) [rv x0, .int (aI h (fR h x0 3103) (Int32.toNatClampNeg x1))] h (fun x7 h6 => xext h h6 → tg h6 x2 = 14 ∧ 1 ≤ fr ∧ 12 ≤ lo ∧ xRi G YX13_isText (fr - 1) (lo - 12) [rv x2] h6 (fun x13 h12 => xext h6 h12 → ((x13 = 0 → 1 ≤ fr ∧ 14 ≤ lo ∧ xRi G YX12_fits (fr - 1) (lo - 14) [rv x0, rv (fR h12 x2 3333), rv x7] h12 (fun x22 h21 => xext h12 h21 → bX12_checkRead_72 G fr lo x0 x1 (aI h (fR h x0 3103) (Int32.toNatClampNeg x1)) x22 h21 Q) (fun r h2 => Q (.threw r) h2)) ∧ (¬ x13 = 0 → tg h12 x7 = 14 ∧ 1 ≤ fr ∧ 12 ≤ lo ∧ xRr G YX13_own (fr - 1) (lo - 12) [rv x7] h12 (fun x28 h27 => xext h12 h27 → ((x28 = (fR h27 x0 3115) → bX12_checkRead_54 G fr lo x0 x1 (aI h (fR h x0 3103) (Int32.toNatClampNeg x1)) h27 Q) ∧ (¬ x28 = (fR h27 x0 3115) → ((x7 = (fR h27 x0 3116) → bX12_checkRead_54 G fr lo x0 x1 (aI h (fR h x0 3103) (Int32.toNatClampNeg x1)) h27 Q) ∧ (¬ x7 = (fR h27 x0 3116) → 1 ≤ fr ∧ 12 ≤ lo ∧ xRr G YX13_own (fr - 1) (lo - 12) [rv x7] h27 (fun x39 h38 => xext h27 h38 → ((¬ x39 = (fR h38 x0 3118) → bX12_checkRead_72 G fr lo x0 x1 (aI h (fR h x0 3103) (Int32.toNatClampNeg x1)) 0 h38 Q) ∧ (x39 = (fR h38 x0 3118) → bX12_checkRead_54 G fr lo x0 x1 (aI h (fR h x0 3103) (Int32.toNatClampNeg x1)) h38 Q))) (fun r h2 => Q (.threw r) h2)))))) (fun r h2 => Q (.threw r) h2)))) (fun r h2 => Q (.threw r) h2)) (fun r h2 => Q (.threw r) h2)
set_option maxRecDepth 100000 in
theorem uX12_checkRead {G : xG} {fr lo : Nat} {x0 : Nat} {x1 : Int32} {x2 : Nat} {h : xH} {Q : Outcome → xH → Prop} (hq : bX12_checkRead G fr lo x0 x1 x2 h Q) : xP G YX12_checkRead fr lo 0 [(0, rv x0), (1, .int x1), (2, rv x2)] [] h Q := by
  unfold bX12_checkRead at hq
  refine x_aload_n 0 dX12_checkRead_0 rfl ?_
  obtain ⟨g1, hq⟩ := hq
  refine x_get (v := rv (fR h x0 3103)) fdX12_73 dX12_checkRead_1 g1 rfl ?_
  refine x_iload_n 1 dX12_checkRead_4 rfl ?_
  obtain ⟨g2, hq⟩ := hq
  obtain ⟨i3, hq⟩ := hq
  refine x_iald 0 (Or.inl rfl) g2 i3 dX12_checkRead_5 ?_
  refine x_istore_n (lv' := [(3, .int (aI h (fR h x0 3103) (Int32.toNatClampNeg x1))), (0, rv x0), (1, .int x1), (2, rv x2)]) dX12_checkRead_6 (by decide) (by first | rfl | (simp [rv_cat, Value.category]; done) | (simp [rv_cat, Value.category]; decide)) ?_
  refine x_aload_n 1 dX12_checkRead_7 rfl ?_
  refine x_iload_n 0 dX12_checkRead_8 rfl ?_
  obtain ⟨g4, g5, hq⟩ := hq
  refine x_callV (Yc := YX12_target) (as := [.int (aI h (fR h x0 3103) (Int32.toNatClampNeg x1))]) (st := []) q4363 mvX12_target g1 rfl dX12_checkRead_9 (xle (xal1 (rv_cat _) (xal1 rfl xal0)) (by decide)) (xfr g4) (xlo xsw0 (by decide) g5) (xKr hq (fun x7 h6 hq e8 => ?_) (fun _ _ q _ => q))
  replace hq := hq e8
  refine x_astore (lv' := [(4, rv x7), (3, .int (aI h (fR h x0 3103) (Int32.toNatClampNeg x1))), (0, rv x0), (1, .int x1), (2, rv x2)]) dX12_checkRead_12 (by decide) rfl ?_
  refine x_aload_n 4 dX12_checkRead_14 rfl ?_
  obtain ⟨g9, hq⟩ := hq
  obtain ⟨g10, g11, hq⟩ := hq
  refine x_callV (Yc := YX13_isText) (as := []) (st := []) q4352 mvX13_isText g9 rfl dX12_checkRead_15 (xle (xal1 (rv_cat _) xal0) (by decide)) (xfr g10) (xlo xsw0 (by decide) g11) (xKi hq (fun x13 h12 hq e14 => ?_) (fun _ _ q _ => q))
  replace hq := hq e14
  refine x_if_eq (tgt := 62) dX12_checkRead_18 (by decide) (fun c15 => ?_) (fun c15 => ?_)
  · replace hq := hq.1 c15
    refine x_aload_n 2 dX12_checkRead_62 rfl ?_
    refine x_aload_n 4 dX12_checkRead_63 rfl ?_
    have t16 : tg h12 x2 = 14 := e14.tg g9 (by decide)
    refine x_get (v := rv (fR h12 x2 3333)) fdX12_598 dX12_checkRead_64 t16 rfl ?_
    refine x_aload 0 dX12_checkRead_67 rfl ?_
    have t17 : tg h6 x0 = 13 := e8.tg g1 (by decide)
    have t18 : tg h12 x0 = 13 := e14.tg t17 (by decide)
    obtain ⟨g19, g20, hq⟩ := hq
    refine x_callV (Yc := YX12_fits) (as := [rv (fR h12 x2 3333), rv x7]) (st := []) q4371 mvX12_fits t18 rfl dX12_checkRead_69 (xle (xal1 (rv_cat _) (xal1 (rv_cat _) (xal1 (rv_cat _) xal0))) (by decide)) (xfr g19) (xlo xsw0 (by decide) g20) (xKi hq (fun x22 h21 hq e23 => ?_) (fun _ _ q _ => q))
    replace hq := hq e23
    refine xP.pick (lv' := [(0, rv x0), (1, .int x1), (3, .int (aI h (fR h x0 3103) (Int32.toNatClampNeg x1)))]) [2, 3, 1] rfl ?_
    exact uX12_checkRead_72 hq
  · replace hq := hq.2 c15
    refine x_aload 0 dX12_checkRead_21 rfl ?_
    obtain ⟨g24, hq⟩ := hq
    obtain ⟨g25, g26, hq⟩ := hq
    refine x_callV (Yc := YX13_own) (as := []) (st := []) q4189 mvX13_own g24 rfl dX12_checkRead_23 (xle (xal1 (rv_cat _) xal0) (by decide)) (xfr g25) (xlo xsw0 (by decide) g26) (xKr hq (fun x28 h27 hq e29 => ?_) (fun _ _ q _ => q))
    replace hq := hq e29
    refine x_aload_n 2 dX12_checkRead_26 rfl ?_
    have t30 : tg h6 x0 = 13 := e8.tg g1 (by decide)
    have t31 : tg h12 x0 = 13 := e14.tg t30 (by decide)
    have t32 : tg h27 x0 = 13 := e29.tg t31 (by decide)
    refine x_get (v := rv (fR h27 x0 3115)) fdX12_109 dX12_checkRead_27 t32 rfl ?_
    refine x_acmp_eq (tgt := 54) dX12_checkRead_30 (by decide) (fun c33 => ?_) (fun c33 => ?_)
    · replace hq := hq.1 c33
      refine xP.pick (lv' := [(0, rv x0), (1, .int x1), (3, .int (aI h (fR h x0 3103) (Int32.toNatClampNeg x1)))]) [2, 3, 1] rfl ?_
      exact uX12_checkRead_54 hq
    · replace hq := hq.2 c33
      refine x_aload 0 dX12_checkRead_33 rfl ?_
      refine x_aload_n 2 dX12_checkRead_35 rfl ?_
      refine x_get (v := rv (fR h27 x0 3116)) fdX12_113 dX12_checkRead_36 t32 rfl ?_
      refine x_acmp_eq (tgt := 54) dX12_checkRead_39 (by decide) (fun c34 => ?_) (fun c34 => ?_)
      · replace hq := hq.1 c34
        refine xP.pick (lv' := [(0, rv x0), (1, .int x1), (3, .int (aI h (fR h x0 3103) (Int32.toNatClampNeg x1)))]) [2, 3, 1] rfl ?_
        exact uX12_checkRead_54 hq
      · replace hq := hq.2 c34
        refine x_aload 0 dX12_checkRead_42 rfl ?_
        have t35 : tg h27 x7 = 14 := e29.tg g24 (by decide)
        obtain ⟨g36, g37, hq⟩ := hq
        refine x_callV (Yc := YX13_own) (as := []) (st := []) q4189 mvX13_own t35 rfl dX12_checkRead_44 (xle (xal1 (rv_cat _) xal0) (by decide)) (xfr g36) (xlo xsw0 (by decide) g37) (xKr hq (fun x39 h38 hq e40 => ?_) (fun _ _ q _ => q))
        replace hq := hq e40
        refine x_aload_n 2 dX12_checkRead_47 rfl ?_
        have t41 : tg h38 x0 = 13 := e40.tg t32 (by decide)
        refine x_get (v := rv (fR h38 x0 3118)) fdX12_119 dX12_checkRead_48 t41 rfl ?_
        refine x_acmp_ne (tgt := 58) dX12_checkRead_51 (by decide) (fun c42 => ?_) (fun c42 => ?_)
        · replace hq := hq.1 c42
          refine x_iconst (v := 0) dX12_checkRead_58 (by decide) ?_
          refine x_goto (tgt := 72) dX12_checkRead_59 (by decide) ?_
          refine xP.pick (lv' := [(0, rv x0), (1, .int x1), (3, .int (aI h (fR h x0 3103) (Int32.toNatClampNeg x1)))]) [2, 3, 1] rfl ?_
          exact uX12_checkRead_72 hq
        · replace hq := hq.2 c42
          refine xP.pick (lv' := [(0, rv x0), (1, .int x1), (3, .int (aI h (fR h x0 3103) (Int32.toNatClampNeg x1)))]) [2, 3, 1] rfl ?_
          exact uX12_checkRead_54 hq
theorem rX12_checkRead {G : xG} {fr lo : Nat} {x0 : Nat} {x1 : Int32} {x2 : Nat} {h : xH} {Q : Outcome → xH → Prop} (hq : bX12_checkRead G fr lo x0 x1 x2 h Q) : xR G YX12_checkRead fr lo [rv x0, .int x1, rv x2] h Q := by
  show xP _ _ _ _ _ (lv_args 0 _) _ _ _
  rw [show lv_args 0 [rv x0, .int x1, rv x2] = [(0, rv x0), (1, .int x1), (2, rv x2)] from (xla1 (rv_cat _) (xla1 rfl (xla1 (rv_cat _) xla0)))]
  exact uX12_checkRead hq
set_option maxRecDepth 100000 in
theorem dX12_checkWrite_0 : decode cX12_checkWrite 0 = .ok (.aload_n 0, 1) := by decide +kernel
set_option maxRecDepth 100000 in
theorem dX12_checkWrite_1 : decode cX12_checkWrite 1 = .ok (.getfield 73, 3) := by decide +kernel
set_option maxRecDepth 100000 in
theorem dX12_checkWrite_4 : decode cX12_checkWrite 4 = .ok (.iload_n 1, 1) := by decide +kernel
set_option maxRecDepth 100000 in
theorem dX12_checkWrite_5 : decode cX12_checkWrite 5 = .ok (.iaload, 1) := by decide +kernel
set_option maxRecDepth 100000 in
theorem dX12_checkWrite_6 : decode cX12_checkWrite 6 = .ok (.istore_n 3, 1) := by decide +kernel
set_option maxRecDepth 100000 in
theorem dX12_checkWrite_7 : decode cX12_checkWrite 7 = .ok (.aload_n 0, 1) := by decide +kernel
set_option maxRecDepth 100000 in
theorem dX12_checkWrite_8 : decode cX12_checkWrite 8 = .ok (.iload_n 3, 1) := by decide +kernel
set_option maxRecDepth 100000 in
theorem dX12_checkWrite_9 : decode cX12_checkWrite 9 = .ok (.invokevirtual 989, 3) := by decide +kernel
set_option maxRecDepth 100000 in
theorem dX12_checkWrite_12 : decode cX12_checkWrite 12 = .ok (.astore 4, 2) := by decide +kernel
set_option maxRecDepth 100000 in
theorem dX12_checkWrite_14 : decode cX12_checkWrite 14 = .ok (.aload_n 2, 1) := by decide +kernel
set_option maxRecDepth 100000 in
theorem dX12_checkWrite_15 : decode cX12_checkWrite 15 = .ok (.invokevirtual 1040, 3) := by decide +kernel
set_option maxRecDepth 100000 in
theorem dX12_checkWrite_18 : decode cX12_checkWrite 18 = .ok (.ifCond .ne 34, 3) := by decide +kernel
set_option maxRecDepth 100000 in
theorem dX12_checkWrite_21 : decode cX12_checkWrite 21 = .ok (.aload_n 0, 1) := by decide +kernel
set_option maxRecDepth 100000 in
theorem dX12_checkWrite_22 : decode cX12_checkWrite 22 = .ok (.aload 4, 2) := by decide +kernel
set_option maxRecDepth 100000 in
theorem dX12_checkWrite_24 : decode cX12_checkWrite 24 = .ok (.aload_n 2, 1) := by decide +kernel
set_option maxRecDepth 100000 in
theorem dX12_checkWrite_25 : decode cX12_checkWrite 25 = .ok (.getfield 598, 3) := by decide +kernel
set_option maxRecDepth 100000 in
theorem dX12_checkWrite_28 : decode cX12_checkWrite 28 = .ok (.invokevirtual 999, 3) := by decide +kernel
set_option maxRecDepth 100000 in
theorem dX12_checkWrite_31 : decode cX12_checkWrite 31 = .ok (.ifCond .ne 15, 3) := by decide +kernel
set_option maxRecDepth 100000 in
theorem dX12_checkWrite_34 : decode cX12_checkWrite 34 = .ok (.aload_n 0, 1) := by decide +kernel
set_option maxRecDepth 100000 in
theorem dX12_checkWrite_35 : decode cX12_checkWrite 35 = .ok (.bipush 7, 2) := by decide +kernel
set_option maxRecDepth 100000 in
theorem dX12_checkWrite_37 : decode cX12_checkWrite 37 = .ok (.aload_n 0, 1) := by decide +kernel
set_option maxRecDepth 100000 in
theorem dX12_checkWrite_38 : decode cX12_checkWrite 38 = .ok (.getfield 70, 3) := by decide +kernel
set_option maxRecDepth 100000 in
theorem dX12_checkWrite_41 : decode cX12_checkWrite 41 = .ok (.iload_n 3, 1) := by decide +kernel
set_option maxRecDepth 100000 in
theorem dX12_checkWrite_42 : decode cX12_checkWrite 42 = .ok (.iaload, 1) := by decide +kernel
set_option maxRecDepth 100000 in
theorem dX12_checkWrite_43 : decode cX12_checkWrite 43 = .ok (.invokevirtual 570, 3) := by decide +kernel
set_option maxRecDepth 100000 in
theorem dX12_checkWrite_46 : decode cX12_checkWrite 46 = .ok (.aload_n 0, 1) := by decide +kernel
set_option maxRecDepth 100000 in
theorem dX12_checkWrite_47 : decode cX12_checkWrite 47 = .ok (.iload_n 1, 1) := by decide +kernel
set_option maxRecDepth 100000 in
theorem dX12_checkWrite_48 : decode cX12_checkWrite 48 = .ok (.invokevirtual 1019, 3) := by decide +kernel
set_option maxRecDepth 100000 in
theorem dX12_checkWrite_51 : decode cX12_checkWrite 51 = .ok (.return_, 1) := by decide +kernel
set_option maxRecDepth 100000 in
theorem dX12_checkWrite_52 : decode cX12_checkWrite 52 = .ok (.aload 4, 2) := by decide +kernel
set_option maxRecDepth 100000 in
theorem dX12_checkWrite_54 : decode cX12_checkWrite 54 = .ok (.invokevirtual 867, 3) := by decide +kernel
set_option maxRecDepth 100000 in
theorem dX12_checkWrite_57 : decode cX12_checkWrite 57 = .ok (.astore 5, 2) := by decide +kernel
set_option maxRecDepth 100000 in
theorem dX12_checkWrite_59 : decode cX12_checkWrite 59 = .ok (.aload 5, 2) := by decide +kernel
set_option maxRecDepth 100000 in
theorem dX12_checkWrite_61 : decode cX12_checkWrite 61 = .ok (.aload_n 0, 1) := by decide +kernel
set_option maxRecDepth 100000 in
theorem dX12_checkWrite_62 : decode cX12_checkWrite 62 = .ok (.getfield 109, 3) := by decide +kernel
set_option maxRecDepth 100000 in
theorem dX12_checkWrite_65 : decode cX12_checkWrite 65 = .ok (.if_acmp .eq 50, 3) := by decide +kernel
set_option maxRecDepth 100000 in
theorem dX12_checkWrite_68 : decode cX12_checkWrite 68 = .ok (.aload 5, 2) := by decide +kernel
set_option maxRecDepth 100000 in
theorem dX12_checkWrite_70 : decode cX12_checkWrite 70 = .ok (.aload_n 0, 1) := by decide +kernel
set_option maxRecDepth 100000 in
theorem dX12_checkWrite_71 : decode cX12_checkWrite 71 = .ok (.getfield 113, 3) := by decide +kernel
set_option maxRecDepth 100000 in
theorem dX12_checkWrite_74 : decode cX12_checkWrite 74 = .ok (.if_acmp .eq 41, 3) := by decide +kernel
set_option maxRecDepth 100000 in
theorem dX12_checkWrite_77 : decode cX12_checkWrite 77 = .ok (.aload 5, 2) := by decide +kernel
set_option maxRecDepth 100000 in
theorem dX12_checkWrite_79 : decode cX12_checkWrite 79 = .ok (.aload_n 0, 1) := by decide +kernel
set_option maxRecDepth 100000 in
theorem dX12_checkWrite_80 : decode cX12_checkWrite 80 = .ok (.getfield 116, 3) := by decide +kernel
set_option maxRecDepth 100000 in
theorem dX12_checkWrite_83 : decode cX12_checkWrite 83 = .ok (.if_acmp .eq 32, 3) := by decide +kernel
set_option maxRecDepth 100000 in
theorem dX12_checkWrite_86 : decode cX12_checkWrite 86 = .ok (.aload 5, 2) := by decide +kernel
set_option maxRecDepth 100000 in
theorem dX12_checkWrite_88 : decode cX12_checkWrite 88 = .ok (.aload_n 0, 1) := by decide +kernel
set_option maxRecDepth 100000 in
theorem dX12_checkWrite_89 : decode cX12_checkWrite 89 = .ok (.getfield 119, 3) := by decide +kernel
set_option maxRecDepth 100000 in
theorem dX12_checkWrite_92 : decode cX12_checkWrite 92 = .ok (.if_acmp .eq 23, 3) := by decide +kernel
set_option maxRecDepth 100000 in
theorem dX12_checkWrite_95 : decode cX12_checkWrite 95 = .ok (.aload 4, 2) := by decide +kernel
set_option maxRecDepth 100000 in
theorem dX12_checkWrite_97 : decode cX12_checkWrite 97 = .ok (.invokevirtual 1050, 3) := by decide +kernel
set_option maxRecDepth 100000 in
theorem dX12_checkWrite_100 : decode cX12_checkWrite 100 = .ok (.ifCond .ne 15, 3) := by decide +kernel
set_option maxRecDepth 100000 in
theorem dX12_checkWrite_103 : decode cX12_checkWrite 103 = .ok (.aload_n 0, 1) := by decide +kernel
set_option maxRecDepth 100000 in
theorem dX12_checkWrite_104 : decode cX12_checkWrite 104 = .ok (.bipush 7, 2) := by decide +kernel
set_option maxRecDepth 100000 in
theorem dX12_checkWrite_106 : decode cX12_checkWrite 106 = .ok (.aload_n 0, 1) := by decide +kernel
set_option maxRecDepth 100000 in
theorem dX12_checkWrite_107 : decode cX12_checkWrite 107 = .ok (.getfield 70, 3) := by decide +kernel
set_option maxRecDepth 100000 in
theorem dX12_checkWrite_110 : decode cX12_checkWrite 110 = .ok (.iload_n 3, 1) := by decide +kernel
set_option maxRecDepth 100000 in
theorem dX12_checkWrite_111 : decode cX12_checkWrite 111 = .ok (.iaload, 1) := by decide +kernel
set_option maxRecDepth 100000 in
theorem dX12_checkWrite_112 : decode cX12_checkWrite 112 = .ok (.invokevirtual 570, 3) := by decide +kernel
set_option maxRecDepth 100000 in
theorem dX12_checkWrite_115 : decode cX12_checkWrite 115 = .ok (.aload_n 0, 1) := by decide +kernel
set_option maxRecDepth 100000 in
theorem dX12_checkWrite_116 : decode cX12_checkWrite 116 = .ok (.getfield 82, 3) := by decide +kernel
set_option maxRecDepth 100000 in
theorem dX12_checkWrite_119 : decode cX12_checkWrite 119 = .ok (.iload_n 1, 1) := by decide +kernel
set_option maxRecDepth 100000 in
theorem dX12_checkWrite_120 : decode cX12_checkWrite 120 = .ok (.iaload, 1) := by decide +kernel
set_option maxRecDepth 100000 in
theorem dX12_checkWrite_121 : decode cX12_checkWrite 121 = .ok (.iconst (-1), 1) := by decide +kernel
set_option maxRecDepth 100000 in
theorem dX12_checkWrite_122 : decode cX12_checkWrite 122 = .ok (.if_icmp .ne 4, 3) := by decide +kernel
set_option maxRecDepth 100000 in
theorem dX12_checkWrite_125 : decode cX12_checkWrite 125 = .ok (.return_, 1) := by decide +kernel
set_option maxRecDepth 100000 in
theorem dX12_checkWrite_126 : decode cX12_checkWrite 126 = .ok (.aload_n 0, 1) := by decide +kernel
set_option maxRecDepth 100000 in
theorem dX12_checkWrite_127 : decode cX12_checkWrite 127 = .ok (.aload_n 0, 1) := by decide +kernel
set_option maxRecDepth 100000 in
theorem dX12_checkWrite_128 : decode cX12_checkWrite 128 = .ok (.getfield 79, 3) := by decide +kernel
set_option maxRecDepth 100000 in
theorem dX12_checkWrite_131 : decode cX12_checkWrite 131 = .ok (.iload_n 3, 1) := by decide +kernel
set_option maxRecDepth 100000 in
theorem dX12_checkWrite_132 : decode cX12_checkWrite 132 = .ok (.iaload, 1) := by decide +kernel
set_option maxRecDepth 100000 in
theorem dX12_checkWrite_133 : decode cX12_checkWrite 133 = .ok (.invokevirtual 989, 3) := by decide +kernel
set_option maxRecDepth 100000 in
theorem dX12_checkWrite_136 : decode cX12_checkWrite 136 = .ok (.invokevirtual 867, 3) := by decide +kernel
set_option maxRecDepth 100000 in
theorem dX12_checkWrite_139 : decode cX12_checkWrite 139 = .ok (.aload_n 0, 1) := by decide +kernel
set_option maxRecDepth 100000 in
theorem dX12_checkWrite_140 : decode cX12_checkWrite 140 = .ok (.getfield 109, 3) := by decide +kernel
set_option maxRecDepth 100000 in
theorem dX12_checkWrite_143 : decode cX12_checkWrite 143 = .ok (.if_acmp .eq 15, 3) := by decide +kernel
set_option maxRecDepth 100000 in
theorem dX12_checkWrite_146 : decode cX12_checkWrite 146 = .ok (.aload_n 0, 1) := by decide +kernel
set_option maxRecDepth 100000 in
theorem dX12_checkWrite_147 : decode cX12_checkWrite 147 = .ok (.bipush 7, 2) := by decide +kernel
set_option maxRecDepth 100000 in
theorem dX12_checkWrite_149 : decode cX12_checkWrite 149 = .ok (.aload_n 0, 1) := by decide +kernel
set_option maxRecDepth 100000 in
theorem dX12_checkWrite_150 : decode cX12_checkWrite 150 = .ok (.getfield 82, 3) := by decide +kernel
set_option maxRecDepth 100000 in
theorem dX12_checkWrite_153 : decode cX12_checkWrite 153 = .ok (.iload_n 1, 1) := by decide +kernel
set_option maxRecDepth 100000 in
theorem dX12_checkWrite_154 : decode cX12_checkWrite 154 = .ok (.iaload, 1) := by decide +kernel
set_option maxRecDepth 100000 in
theorem dX12_checkWrite_155 : decode cX12_checkWrite 155 = .ok (.invokevirtual 570, 3) := by decide +kernel
set_option maxRecDepth 100000 in
theorem dX12_checkWrite_158 : decode cX12_checkWrite 158 = .ok (.aload_n 0, 1) := by decide +kernel
set_option maxRecDepth 100000 in
theorem dX12_checkWrite_159 : decode cX12_checkWrite 159 = .ok (.getfield 85, 3) := by decide +kernel
set_option maxRecDepth 100000 in
theorem dX12_checkWrite_162 : decode cX12_checkWrite 162 = .ok (.iload_n 1, 1) := by decide +kernel
set_option maxRecDepth 100000 in
theorem dX12_checkWrite_163 : decode cX12_checkWrite 163 = .ok (.iaload, 1) := by decide +kernel
set_option maxRecDepth 100000 in
theorem dX12_checkWrite_164 : decode cX12_checkWrite 164 = .ok (.iconst (-1), 1) := by decide +kernel
set_option maxRecDepth 100000 in
theorem dX12_checkWrite_165 : decode cX12_checkWrite 165 = .ok (.if_icmp .ne 4, 3) := by decide +kernel
set_option maxRecDepth 100000 in
theorem dX12_checkWrite_168 : decode cX12_checkWrite 168 = .ok (.return_, 1) := by decide +kernel
set_option maxRecDepth 100000 in
theorem dX12_checkWrite_169 : decode cX12_checkWrite 169 = .ok (.aload 5, 2) := by decide +kernel
set_option maxRecDepth 100000 in
theorem dX12_checkWrite_171 : decode cX12_checkWrite 171 = .ok (.aload_n 0, 1) := by decide +kernel
set_option maxRecDepth 100000 in
theorem dX12_checkWrite_172 : decode cX12_checkWrite 172 = .ok (.getfield 113, 3) := by decide +kernel
set_option maxRecDepth 100000 in
theorem dX12_checkWrite_175 : decode cX12_checkWrite 175 = .ok (.if_acmp .eq 15, 3) := by decide +kernel
set_option maxRecDepth 100000 in
theorem dX12_checkWrite_178 : decode cX12_checkWrite 178 = .ok (.aload_n 0, 1) := by decide +kernel
set_option maxRecDepth 100000 in
theorem dX12_checkWrite_179 : decode cX12_checkWrite 179 = .ok (.bipush 7, 2) := by decide +kernel
set_option maxRecDepth 100000 in
theorem dX12_checkWrite_181 : decode cX12_checkWrite 181 = .ok (.aload_n 0, 1) := by decide +kernel
set_option maxRecDepth 100000 in
theorem dX12_checkWrite_182 : decode cX12_checkWrite 182 = .ok (.getfield 85, 3) := by decide +kernel
set_option maxRecDepth 100000 in
theorem dX12_checkWrite_185 : decode cX12_checkWrite 185 = .ok (.iload_n 1, 1) := by decide +kernel
set_option maxRecDepth 100000 in
theorem dX12_checkWrite_186 : decode cX12_checkWrite 186 = .ok (.iaload, 1) := by decide +kernel
set_option maxRecDepth 100000 in
theorem dX12_checkWrite_187 : decode cX12_checkWrite 187 = .ok (.invokevirtual 570, 3) := by decide +kernel
set_option maxRecDepth 100000 in
theorem dX12_checkWrite_190 : decode cX12_checkWrite 190 = .ok (.aload_n 0, 1) := by decide +kernel
set_option maxRecDepth 100000 in
theorem dX12_checkWrite_191 : decode cX12_checkWrite 191 = .ok (.aload_n 0, 1) := by decide +kernel
set_option maxRecDepth 100000 in
theorem dX12_checkWrite_192 : decode cX12_checkWrite 192 = .ok (.getfield 79, 3) := by decide +kernel
set_option maxRecDepth 100000 in
theorem dX12_checkWrite_195 : decode cX12_checkWrite 195 = .ok (.aload_n 0, 1) := by decide +kernel
set_option maxRecDepth 100000 in
theorem dX12_checkWrite_196 : decode cX12_checkWrite 196 = .ok (.getfield 79, 3) := by decide +kernel
set_option maxRecDepth 100000 in
theorem dX12_checkWrite_199 : decode cX12_checkWrite 199 = .ok (.iload_n 3, 1) := by decide +kernel
set_option maxRecDepth 100000 in
theorem dX12_checkWrite_200 : decode cX12_checkWrite 200 = .ok (.iaload, 1) := by decide +kernel
set_option maxRecDepth 100000 in
theorem dX12_checkWrite_201 : decode cX12_checkWrite 201 = .ok (.iaload, 1) := by decide +kernel
set_option maxRecDepth 100000 in
theorem dX12_checkWrite_202 : decode cX12_checkWrite 202 = .ok (.invokevirtual 989, 3) := by decide +kernel
set_option maxRecDepth 100000 in
theorem dX12_checkWrite_205 : decode cX12_checkWrite 205 = .ok (.invokevirtual 867, 3) := by decide +kernel
set_option maxRecDepth 100000 in
theorem dX12_checkWrite_208 : decode cX12_checkWrite 208 = .ok (.aload_n 0, 1) := by decide +kernel
set_option maxRecDepth 100000 in
theorem dX12_checkWrite_209 : decode cX12_checkWrite 209 = .ok (.getfield 109, 3) := by decide +kernel
set_option maxRecDepth 100000 in
theorem dX12_checkWrite_212 : decode cX12_checkWrite 212 = .ok (.if_acmp .eq 15, 3) := by decide +kernel
set_option maxRecDepth 100000 in
theorem dX12_checkWrite_215 : decode cX12_checkWrite 215 = .ok (.aload_n 0, 1) := by decide +kernel
set_option maxRecDepth 100000 in
theorem dX12_checkWrite_216 : decode cX12_checkWrite 216 = .ok (.bipush 7, 2) := by decide +kernel
set_option maxRecDepth 100000 in
theorem dX12_checkWrite_218 : decode cX12_checkWrite 218 = .ok (.aload_n 0, 1) := by decide +kernel
set_option maxRecDepth 100000 in
theorem dX12_checkWrite_219 : decode cX12_checkWrite 219 = .ok (.getfield 85, 3) := by decide +kernel
set_option maxRecDepth 100000 in
theorem dX12_checkWrite_222 : decode cX12_checkWrite 222 = .ok (.iload_n 1, 1) := by decide +kernel
set_option maxRecDepth 100000 in
theorem dX12_checkWrite_223 : decode cX12_checkWrite 223 = .ok (.iaload, 1) := by decide +kernel
set_option maxRecDepth 100000 in
theorem dX12_checkWrite_224 : decode cX12_checkWrite 224 = .ok (.invokevirtual 570, 3) := by decide +kernel
set_option maxRecDepth 100000 in
theorem dX12_checkWrite_227 : decode cX12_checkWrite 227 = .ok (.return_, 1) := by decide +kernel
set_option maxRecDepth 100000 in
def bX12_checkWrite_227 (G : xG) (fr lo : Nat) (h : xH) (Q : Outcome → xH → Prop) : Prop := Q (.returned none) h
set_option maxRecDepth 100000 in
theorem uX12_checkWrite_227 {G : xG} {fr lo : Nat} {h : xH} {Q : Outcome → xH → Prop} (hq : bX12_checkWrite_227 G fr lo h Q) : xP G YX12_checkWrite fr lo 227 [] [] h Q := by
  unfold bX12_checkWrite_227 at hq
  exact x_vret rfl dX12_checkWrite_227 hq
set_option maxRecDepth 100000 in
def bX12_checkWrite_190 (G : xG) (fr lo : Nat) (x0 : Nat) (x1 : Int32) (x3 : Int32) (h : xH) (Q : Outcome → xH → Prop) : Prop := tg h x0 = 13 ∧ tg h (fR h x0 3105) = 100 ∧ vp_in x3 (ln h (fR h x0 3105)) ∧ vp_in (aI h (fR h x0 3105) (Int32.toNatClampNeg x3)) (ln h (fR h x0 3105)) ∧ 1 ≤ fr ∧ 15 ≤ lo ∧ xRr G YX12_checkE (fr - 1) (lo - 15) [rv x0, .int (aI h (fR h x0 3105) (Int32.toNatClampNeg (aI h (fR h x0 3105) (Int32.toNatClampNeg x3))))] h (fun x8 h7 => xext h h7 → tg h7 x8 = 14 ∧ 1 ≤ fr ∧ 12 ≤ lo ∧ xRr G YX13_own (fr - 1) (lo - 12) [rv x8] h7 (fun x14 h13 => xext h7 h13 → ((x14 = (fR h13 x0 3115) → bX12_checkWrite_227 G fr lo h13 Q) ∧ (¬ x14 = (fR h13 x0 3115) → tg h13 (fR h13 x0 3107) = 100 ∧ vp_in x1 (ln h13 (fR h13 x0 3107)) ∧ 1 ≤ fr ∧ 14 ≤ lo ∧ xRv G YX12_refuse (fr - 1) (lo - 14) [rv x0, .int 7, .int (aI h13 (fR h13 x0 3107) (Int32.toNatClampNeg x1))] h13 (fun h23 => xext h13 h23 → bX12_checkWrite_227 G fr lo h23 Q) (fun r h2 => Q (.threw r) h2)))) (fun r h2 => Q (.threw r) h2)) (fun r h2 => Q (.threw r) h2)
set_option maxRecDepth 100000 in
theorem uX12_checkWrite_190 {G : xG} {fr lo : Nat} {x0 : Nat} {x1 : Int32} {x3 : Int32} {h : xH} {Q : Outcome → xH → Prop} (hq : bX12_checkWrite_190 G fr lo x0 x1 x3 h Q) : xP G YX12_checkWrite fr lo 190 [(0, rv x0), (1, .int x1), (3, .int x3)] [] h Q := by
  unfold bX12_checkWrite_190 at hq
  refine x_aload_n 0 dX12_checkWrite_190 rfl ?_
  refine x_aload_n 0 dX12_checkWrite_191 rfl ?_
  obtain ⟨g1, hq⟩ := hq
  refine x_get (v := rv (fR h x0 3105)) fdX12_79 dX12_checkWrite_192 g1 rfl ?_
  refine x_aload_n 0 dX12_checkWrite_195 rfl ?_
  refine x_get (v := rv (fR h x0 3105)) fdX12_79 dX12_checkWrite_196 g1 rfl ?_
  refine x_iload_n 2 dX12_checkWrite_199 rfl ?_
  obtain ⟨g2, hq⟩ := hq
  obtain ⟨i3, hq⟩ := hq
  refine x_iald 0 (Or.inl rfl) g2 i3 dX12_checkWrite_200 ?_
  obtain ⟨i4, hq⟩ := hq
  refine x_iald 0 (Or.inl rfl) g2 i4 dX12_checkWrite_201 ?_
  obtain ⟨g5, g6, hq⟩ := hq
  refine x_callV (Yc := YX12_checkE) (as := [.int (aI h (fR h x0 3105) (Int32.toNatClampNeg (aI h (fR h x0 3105) (Int32.toNatClampNeg x3))))]) (st := []) q4308 mvX12_checkE g1 rfl dX12_checkWrite_202 (xle (xal1 (rv_cat _) (xal1 rfl xal0)) (by decide)) (xfr g5) (xlo xsw0 (by decide) g6) (xKr hq (fun x8 h7 hq e9 => ?_) (fun _ _ q _ => q))
  replace hq := hq e9
  obtain ⟨g10, hq⟩ := hq
  obtain ⟨g11, g12, hq⟩ := hq
  refine x_callV (Yc := YX13_own) (as := []) (st := []) q4189 mvX13_own g10 rfl dX12_checkWrite_205 (xle (xal1 (rv_cat _) xal0) (by decide)) (xfr g11) (xlo xsw0 (by decide) g12) (xKr hq (fun x14 h13 hq e15 => ?_) (fun _ _ q _ => q))
  replace hq := hq e15
  refine x_aload_n 0 dX12_checkWrite_208 rfl ?_
  have t16 : tg h7 x0 = 13 := e9.tg g1 (by decide)
  have t17 : tg h13 x0 = 13 := e15.tg t16 (by decide)
  refine x_get (v := rv (fR h13 x0 3115)) fdX12_109 dX12_checkWrite_209 t17 rfl ?_
  refine x_acmp_eq (tgt := 227) dX12_checkWrite_212 (by decide) (fun c18 => ?_) (fun c18 => ?_)
  · replace hq := hq.1 c18
    refine xP.pick (lv' := []) [] rfl ?_
    exact uX12_checkWrite_227 hq
  · replace hq := hq.2 c18
    refine x_aload_n 0 dX12_checkWrite_215 rfl ?_
    refine x_bipush (v := 7) dX12_checkWrite_216 (by decide) ?_
    refine x_aload_n 0 dX12_checkWrite_218 rfl ?_
    refine x_get (v := rv (fR h13 x0 3107)) fdX12_85 dX12_checkWrite_219 t17 rfl ?_
    refine x_iload_n 1 dX12_checkWrite_222 rfl ?_
    obtain ⟨g19, hq⟩ := hq
    obtain ⟨i20, hq⟩ := hq
    refine x_iald 0 (Or.inl rfl) g19 i20 dX12_checkWrite_223 ?_
    obtain ⟨g21, g22, hq⟩ := hq
    refine x_callV (Yc := YX12_refuse) (as := [.int 7, .int (aI h13 (fR h13 x0 3107) (Int32.toNatClampNeg x1))]) (st := []) q4095 mvX12_refuse t17 rfl dX12_checkWrite_224 (xle (xal1 (rv_cat _) (xal1 rfl (xal1 rfl xal0))) (by decide)) (xfr g21) (xlo xsw0 (by decide) g22) (xKv hq (fun h23 hq e25 => ?_) (fun _ _ q _ => q))
    replace hq := hq e25
    refine xP.pick (lv' := []) [] rfl ?_
    exact uX12_checkWrite_227 hq
set_option maxRecDepth 100000 in
def bX12_checkWrite_158 (G : xG) (fr lo : Nat) (x0 : Nat) (x1 : Int32) (x3 : Int32) (x5 : Nat) (h : xH) (Q : Outcome → xH → Prop) : Prop := tg h x0 = 13 ∧ tg h (fR h x0 3107) = 100 ∧ vp_in x1 (ln h (fR h x0 3107)) ∧ ((¬ (aI h (fR h x0 3107) (Int32.toNatClampNeg x1)) = (-1) → ((x5 = (fR h x0 3116) → bX12_checkWrite_190 G fr lo x0 x1 x3 h Q) ∧ (¬ x5 = (fR h x0 3116) → vp_in x1 (ln h (fR h x0 3107)) ∧ 1 ≤ fr ∧ 14 ≤ lo ∧ xRv G YX12_refuse (fr - 1) (lo - 14) [rv x0, .int 7, .int (aI h (fR h x0 3107) (Int32.toNatClampNeg x1))] h (fun h9 => xext h h9 → bX12_checkWrite_190 G fr lo x0 x1 x3 h9 Q) (fun r h2 => Q (.threw r) h2)))) ∧ ((aI h (fR h x0 3107) (Int32.toNatClampNeg x1)) = (-1) → Q (.returned none) h))
set_option maxRecDepth 100000 in
theorem uX12_checkWrite_158 {G : xG} {fr lo : Nat} {x0 : Nat} {x1 : Int32} {x3 : Int32} {x5 : Nat} {h : xH} {Q : Outcome → xH → Prop} (hq : bX12_checkWrite_158 G fr lo x0 x1 x3 x5 h Q) : xP G YX12_checkWrite fr lo 158 [(0, rv x0), (1, .int x1), (3, .int x3), (5, rv x5)] [] h Q := by
  unfold bX12_checkWrite_158 at hq
  refine x_aload_n 0 dX12_checkWrite_158 rfl ?_
  obtain ⟨g1, hq⟩ := hq
  refine x_get (v := rv (fR h x0 3107)) fdX12_85 dX12_checkWrite_159 g1 rfl ?_
  refine x_iload_n 1 dX12_checkWrite_162 rfl ?_
  obtain ⟨g2, hq⟩ := hq
  obtain ⟨i3, hq⟩ := hq
  refine x_iald 0 (Or.inl rfl) g2 i3 dX12_checkWrite_163 ?_
  refine x_iconst (v := (-1)) dX12_checkWrite_164 (by decide) ?_
  refine x_icmp_ne (tgt := 169) dX12_checkWrite_165 (by decide) (fun c4 => ?_) (fun c4 => ?_)
  · replace hq := hq.1 c4
    refine x_aload 3 dX12_checkWrite_169 rfl ?_
    refine x_aload_n 0 dX12_checkWrite_171 rfl ?_
    refine x_get (v := rv (fR h x0 3116)) fdX12_113 dX12_checkWrite_172 g1 rfl ?_
    refine x_acmp_eq (tgt := 190) dX12_checkWrite_175 (by decide) (fun c5 => ?_) (fun c5 => ?_)
    · replace hq := hq.1 c5
      refine xP.pick (lv' := [(0, rv x0), (1, .int x1), (3, .int x3)]) [0, 1, 2] rfl ?_
      exact uX12_checkWrite_190 hq
    · replace hq := hq.2 c5
      refine x_aload_n 0 dX12_checkWrite_178 rfl ?_
      refine x_bipush (v := 7) dX12_checkWrite_179 (by decide) ?_
      refine x_aload_n 0 dX12_checkWrite_181 rfl ?_
      refine x_get (v := rv (fR h x0 3107)) fdX12_85 dX12_checkWrite_182 g1 rfl ?_
      refine x_iload_n 1 dX12_checkWrite_185 rfl ?_
      obtain ⟨i6, hq⟩ := hq
      refine x_iald 0 (Or.inl rfl) g2 i6 dX12_checkWrite_186 ?_
      obtain ⟨g7, g8, hq⟩ := hq
      refine x_callV (Yc := YX12_refuse) (as := [.int 7, .int (aI h (fR h x0 3107) (Int32.toNatClampNeg x1))]) (st := []) q4095 mvX12_refuse g1 rfl dX12_checkWrite_187 (xle (xal1 (rv_cat _) (xal1 rfl (xal1 rfl xal0))) (by decide)) (xfr g7) (xlo xsw0 (by decide) g8) (xKv hq (fun h9 hq e11 => ?_) (fun _ _ q _ => q))
      replace hq := hq e11
      refine xP.pick (lv' := [(0, rv x0), (1, .int x1), (3, .int x3)]) [0, 1, 2] rfl ?_
      exact uX12_checkWrite_190 hq
  · replace hq := hq.2 c4
    exact x_vret rfl dX12_checkWrite_168 hq
set_option maxRecDepth 100000 in
def bX12_checkWrite_115 (G : xG) (fr lo : Nat) (x0 : Nat) (x1 : Int32) (x3 : Int32) (x5 : Nat) (h : xH) (Q : Outcome → xH → Prop) : Prop := tg h x0 = 13 ∧ tg h (fR h x0 3106) = 100 ∧ vp_in x1 (ln h (fR h x0 3106)) ∧ ((¬ (aI h (fR h x0 3106) (Int32.toNatClampNeg x1)) = (-1) → tg h (fR h x0 3105) = 100 ∧ vp_in x3 (ln h (fR h x0 3105)) ∧ 1 ≤ fr ∧ 15 ≤ lo ∧ xRr G YX12_checkE (fr - 1) (lo - 15) [rv x0, .int (aI h (fR h x0 3105) (Int32.toNatClampNeg x3))] h (fun x10 h9 => xext h h9 → tg h9 x10 = 14 ∧ 1 ≤ fr ∧ 12 ≤ lo ∧ xRr G YX13_own (fr - 1) (lo - 12) [rv x10] h9 (fun x16 h15 => xext h9 h15 → ((x16 = (fR h15 x0 3115) → bX12_checkWrite_158 G fr lo x0 x1 x3 x5 h15 Q) ∧ (¬ x16 = (fR h15 x0 3115) → tg h15 (fR h15 x0 3106) = 100 ∧ vp_in x1 (ln h15 (fR h15 x0 3106)) ∧ 1 ≤ fr ∧ 14 ≤ lo ∧ xRv G YX12_refuse (fr - 1) (lo - 14) [rv x0, .int 7, .int (aI h15 (fR h15 x0 3106) (Int32.toNatClampNeg x1))] h15 (fun h25 => xext h15 h25 → bX12_checkWrite_158 G fr lo x0 x1 x3 x5 h25 Q) (fun r h2 => Q (.threw r) h2)))) (fun r h2 => Q (.threw r) h2)) (fun r h2 => Q (.threw r) h2)) ∧ ((aI h (fR h x0 3106) (Int32.toNatClampNeg x1)) = (-1) → Q (.returned none) h))
set_option maxRecDepth 100000 in
theorem uX12_checkWrite_115 {G : xG} {fr lo : Nat} {x0 : Nat} {x1 : Int32} {x3 : Int32} {x5 : Nat} {h : xH} {Q : Outcome → xH → Prop} (hq : bX12_checkWrite_115 G fr lo x0 x1 x3 x5 h Q) : xP G YX12_checkWrite fr lo 115 [(0, rv x0), (1, .int x1), (3, .int x3), (5, rv x5)] [] h Q := by
  unfold bX12_checkWrite_115 at hq
  refine x_aload_n 0 dX12_checkWrite_115 rfl ?_
  obtain ⟨g1, hq⟩ := hq
  refine x_get (v := rv (fR h x0 3106)) fdX12_82 dX12_checkWrite_116 g1 rfl ?_
  refine x_iload_n 1 dX12_checkWrite_119 rfl ?_
  obtain ⟨g2, hq⟩ := hq
  obtain ⟨i3, hq⟩ := hq
  refine x_iald 0 (Or.inl rfl) g2 i3 dX12_checkWrite_120 ?_
  refine x_iconst (v := (-1)) dX12_checkWrite_121 (by decide) ?_
  refine x_icmp_ne (tgt := 126) dX12_checkWrite_122 (by decide) (fun c4 => ?_) (fun c4 => ?_)
  · replace hq := hq.1 c4
    refine x_aload_n 0 dX12_checkWrite_126 rfl ?_
    refine x_aload_n 0 dX12_checkWrite_127 rfl ?_
    refine x_get (v := rv (fR h x0 3105)) fdX12_79 dX12_checkWrite_128 g1 rfl ?_
    refine x_iload_n 2 dX12_checkWrite_131 rfl ?_
    obtain ⟨g5, hq⟩ := hq
    obtain ⟨i6, hq⟩ := hq
    refine x_iald 0 (Or.inl rfl) g5 i6 dX12_checkWrite_132 ?_
    obtain ⟨g7, g8, hq⟩ := hq
    refine x_callV (Yc := YX12_checkE) (as := [.int (aI h (fR h x0 3105) (Int32.toNatClampNeg x3))]) (st := []) q4308 mvX12_checkE g1 rfl dX12_checkWrite_133 (xle (xal1 (rv_cat _) (xal1 rfl xal0)) (by decide)) (xfr g7) (xlo xsw0 (by decide) g8) (xKr hq (fun x10 h9 hq e11 => ?_) (fun _ _ q _ => q))
    replace hq := hq e11
    obtain ⟨g12, hq⟩ := hq
    obtain ⟨g13, g14, hq⟩ := hq
    refine x_callV (Yc := YX13_own) (as := []) (st := []) q4189 mvX13_own g12 rfl dX12_checkWrite_136 (xle (xal1 (rv_cat _) xal0) (by decide)) (xfr g13) (xlo xsw0 (by decide) g14) (xKr hq (fun x16 h15 hq e17 => ?_) (fun _ _ q _ => q))
    replace hq := hq e17
    refine x_aload_n 0 dX12_checkWrite_139 rfl ?_
    have t18 : tg h9 x0 = 13 := e11.tg g1 (by decide)
    have t19 : tg h15 x0 = 13 := e17.tg t18 (by decide)
    refine x_get (v := rv (fR h15 x0 3115)) fdX12_109 dX12_checkWrite_140 t19 rfl ?_
    refine x_acmp_eq (tgt := 158) dX12_checkWrite_143 (by decide) (fun c20 => ?_) (fun c20 => ?_)
    · replace hq := hq.1 c20
      exact uX12_checkWrite_158 hq
    · replace hq := hq.2 c20
      refine x_aload_n 0 dX12_checkWrite_146 rfl ?_
      refine x_bipush (v := 7) dX12_checkWrite_147 (by decide) ?_
      refine x_aload_n 0 dX12_checkWrite_149 rfl ?_
      refine x_get (v := rv (fR h15 x0 3106)) fdX12_82 dX12_checkWrite_150 t19 rfl ?_
      refine x_iload_n 1 dX12_checkWrite_153 rfl ?_
      obtain ⟨g21, hq⟩ := hq
      obtain ⟨i22, hq⟩ := hq
      refine x_iald 0 (Or.inl rfl) g21 i22 dX12_checkWrite_154 ?_
      obtain ⟨g23, g24, hq⟩ := hq
      refine x_callV (Yc := YX12_refuse) (as := [.int 7, .int (aI h15 (fR h15 x0 3106) (Int32.toNatClampNeg x1))]) (st := []) q4095 mvX12_refuse t19 rfl dX12_checkWrite_155 (xle (xal1 (rv_cat _) (xal1 rfl (xal1 rfl xal0))) (by decide)) (xfr g23) (xlo xsw0 (by decide) g24) (xKv hq (fun h25 hq e27 => ?_) (fun _ _ q _ => q))
      replace hq := hq e27
      exact uX12_checkWrite_158 hq
  · replace hq := hq.2 c4
    exact x_vret rfl dX12_checkWrite_125 hq
set_option maxRecDepth 100000 in
def bX12_checkWrite_46 (G : xG) (fr lo : Nat) (x0 : Nat) (x1 : Int32) (h : xH) (Q : Outcome → xH → Prop) : Prop := tg h x0 = 13 ∧ 1 ≤ fr ∧ 13 ≤ lo ∧ xRv G YX12_colon (fr - 1) (lo - 13) [rv x0, .int x1] h (fun h4 => xext h h4 → Q (.returned none) h4) (fun r h2 => Q (.threw r) h2)
set_option maxRecDepth 100000 in
theorem uX12_checkWrite_46 {G : xG} {fr lo : Nat} {x0 : Nat} {x1 : Int32} {h : xH} {Q : Outcome → xH → Prop} (hq : bX12_checkWrite_46 G fr lo x0 x1 h Q) : xP G YX12_checkWrite fr lo 46 [(0, rv x0), (1, .int x1)] [] h Q := by
  unfold bX12_checkWrite_46 at hq
  refine x_aload_n 0 dX12_checkWrite_46 rfl ?_
  refine x_iload_n 1 dX12_checkWrite_47 rfl ?_
  obtain ⟨g1, hq⟩ := hq
  obtain ⟨g2, g3, hq⟩ := hq
  refine x_callV (Yc := YX12_colon) (as := [.int x1]) (st := []) q4460 mvX12_colon g1 rfl dX12_checkWrite_48 (xle (xal1 (rv_cat _) (xal1 rfl xal0)) (by decide)) (xfr g2) (xlo xsw0 (by decide) g3) (xKv hq (fun h4 hq e6 => ?_) (fun _ _ q _ => q))
  replace hq := hq e6
  exact x_vret rfl dX12_checkWrite_51 hq
set_option maxRecDepth 100000 in
def bX12_checkWrite (G : xG) (fr lo : Nat) (x0 : Nat) (x1 : Int32) (x2 : Nat) (h : xH) (Q : Outcome → xH → Prop) : Prop := tg h x0 = 13 ∧ tg h (fR h x0 3103) = 100 ∧ vp_in x1 (ln h (fR h x0 3103)) ∧ 1 ≤ fr ∧ 15 ≤ lo ∧ xRr G YX12_checkE (fr - 1) (lo - 15) [rv x0, .int (aI h (fR h x0 3103) (Int32.toNatClampNeg x1))] h (fun x7 h6 => xext h h6 → tg h6 x2 = 14 ∧ 1 ≤ fr ∧ 12 ≤ lo ∧ xRi G YX13_isText (fr - 1) (lo - 12) [rv x2] h6 (fun x13 h12 => xext h6 h12 → ((¬ x13 = 0 → tg h12 x7 = 14 ∧ 1 ≤ fr ∧ 12 ≤ lo ∧ xRr G YX13_own (fr - 1) (lo - 12) [rv x7] h12 (fun x20 h19 => xext h12 h19 → ((x20 = (fR h19 x0 3115) → bX12_checkWrite_115 G fr lo x0 x1 (aI h (fR h x0 3103) (Int32.toNatClampNeg x1)) x20 h19 Q) ∧ (¬ x20 = (fR h19 x0 3115) → ((x20 = (fR h19 x0 3116) → bX12_checkWrite_115 G fr lo x0 x1 (aI h (fR h x0 3103) (Int32.toNatClampNeg x1)) x20 h19 Q) ∧ (¬ x20 = (fR h19 x0 3116) → ((x20 = (fR h19 x0 3117) → bX12_checkWrite_115 G fr lo x0 x1 (aI h (fR h x0 3103) (Int32.toNatClampNeg x1)) x20 h19 Q) ∧ (¬ x20 = (fR h19 x0 3117) → ((x20 = (fR h19 x0 3118) → bX12_checkWrite_115 G fr lo x0 x1 (aI h (fR h x0 3103) (Int32.toNatClampNeg x1)) x20 h19 Q) ∧ (¬ x20 = (fR h19 x0 3118) → 1 ≤ fr ∧ 13 ≤ lo ∧ xRi G YX13_characters (fr - 1) (lo - 13) [rv x7] h19 (fun x33 h32 => xext h19 h32 → ((¬ x33 = 0 → bX12_checkWrite_115 G fr lo x0 x1 (aI h (fR h x0 3103) (Int32.toNatClampNeg x1)) x20 h32 Q) ∧ (x33 = 0 → tg h32 (fR h32 x0 3102) = 100 ∧ vp_in (aI h (fR h x0 3103) (Int32.toNatClampNeg x1)) (ln h32 (fR h32 x0 3102)) ∧ 1 ≤ fr ∧ 14 ≤ lo ∧ xRv G YX12_refuse (fr - 1) (lo - 14) [rv x0, .int 7, .int (aI h32 (fR h32 x0 3102) (Int32.toNatClampNeg (aI h (fR h x0 3103) (Int32.toNatClampNeg x1))))] h32 (fun h41 => xext h32 h41 → bX12_checkWrite_115 G fr lo x0 x1 (aI h (fR h x0 3103) (Int32.toNatClampNeg x1)) x20 h41 Q) (fun r h2 => Q (.threw r) h2)))) (fun r h2 => Q (.threw r) h2)))))))))) (fun r h2 => Q (.threw r) h2)) ∧ (x13 = 0 → 1 ≤ fr ∧ 14 ≤ lo ∧ xRi G YX12_fits (fr - 1) (lo - 14) [rv x0, rv x7, rv (fR h12 x2 3333)] h12 (fun x50 h49 => xext h12 h49 → ((¬ x50 = 0 → bX12_checkWrite_46 G fr lo x0 x1 h49 Q) ∧ (x50 = 0 → tg h49 (fR h49 x0 3102) = 100 ∧ vp_in (aI h (fR h x0 3103) (Int32.toNatClampNeg x1)) (ln h49 (fR h49 x0 3102)) ∧ 1 ≤ fr ∧ 14 ≤ lo ∧ xRv G YX12_refuse (fr - 1) (lo - 14) [rv x0, .int 7, .int (aI h49 (fR h49 x0 3102) (Int32.toNatClampNeg (aI h (fR h x0 3103) (Int32.toNatClampNeg x1))))] h49 (fun h58 => xext h49 h58 → bX12_checkWrite_46 G fr lo x0 x1 h58 Q) (fun r h2 => Q (.threw r) h2)))) (fun r h2 => Q (.threw r) h2)))) (fun r h2 => Q (.threw r) h2)) (fun r h2 => Q (.threw r) h2)
set_option maxRecDepth 100000 in
theorem uX12_checkWrite {G : xG} {fr lo : Nat} {x0 : Nat} {x1 : Int32} {x2 : Nat} {h : xH} {Q : Outcome → xH → Prop} (hq : bX12_checkWrite G fr lo x0 x1 x2 h Q) : xP G YX12_checkWrite fr lo 0 [(0, rv x0), (1, .int x1), (2, rv x2)] [] h Q := by
  unfold bX12_checkWrite at hq
  refine x_aload_n 0 dX12_checkWrite_0 rfl ?_
  obtain ⟨g1, hq⟩ := hq
  refine x_get (v := rv (fR h x0 3103)) fdX12_73 dX12_checkWrite_1 g1 rfl ?_
  refine x_iload_n 1 dX12_checkWrite_4 rfl ?_
  obtain ⟨g2, hq⟩ := hq
  obtain ⟨i3, hq⟩ := hq
  refine x_iald 0 (Or.inl rfl) g2 i3 dX12_checkWrite_5 ?_
  refine x_istore_n (lv' := [(3, .int (aI h (fR h x0 3103) (Int32.toNatClampNeg x1))), (0, rv x0), (1, .int x1), (2, rv x2)]) dX12_checkWrite_6 (by decide) (by first | rfl | (simp [rv_cat, Value.category]; done) | (simp [rv_cat, Value.category]; decide)) ?_
  refine x_aload_n 1 dX12_checkWrite_7 rfl ?_
  refine x_iload_n 0 dX12_checkWrite_8 rfl ?_
  obtain ⟨g4, g5, hq⟩ := hq
  refine x_callV (Yc := YX12_checkE) (as := [.int (aI h (fR h x0 3103) (Int32.toNatClampNeg x1))]) (st := []) q4308 mvX12_checkE g1 rfl dX12_checkWrite_9 (xle (xal1 (rv_cat _) (xal1 rfl xal0)) (by decide)) (xfr g4) (xlo xsw0 (by decide) g5) (xKr hq (fun x7 h6 hq e8 => ?_) (fun _ _ q _ => q))
  replace hq := hq e8
  refine x_astore (lv' := [(4, rv x7), (3, .int (aI h (fR h x0 3103) (Int32.toNatClampNeg x1))), (0, rv x0), (1, .int x1), (2, rv x2)]) dX12_checkWrite_12 (by decide) rfl ?_
  refine x_aload_n 4 dX12_checkWrite_14 rfl ?_
  obtain ⟨g9, hq⟩ := hq
  obtain ⟨g10, g11, hq⟩ := hq
  refine x_callV (Yc := YX13_isText) (as := []) (st := []) q4352 mvX13_isText g9 rfl dX12_checkWrite_15 (xle (xal1 (rv_cat _) xal0) (by decide)) (xfr g10) (xlo xsw0 (by decide) g11) (xKi hq (fun x13 h12 hq e14 => ?_) (fun _ _ q _ => q))
  replace hq := hq e14
  refine x_if_ne (tgt := 52) dX12_checkWrite_18 (by decide) (fun c15 => ?_) (fun c15 => ?_)
  · replace hq := hq.1 c15
    refine x_aload 0 dX12_checkWrite_52 rfl ?_
    obtain ⟨g16, hq⟩ := hq
    obtain ⟨g17, g18, hq⟩ := hq
    refine x_callV (Yc := YX13_own) (as := []) (st := []) q4189 mvX13_own g16 rfl dX12_checkWrite_54 (xle (xal1 (rv_cat _) xal0) (by decide)) (xfr g17) (xlo xsw0 (by decide) g18) (xKr hq (fun x20 h19 hq e21 => ?_) (fun _ _ q _ => q))
    replace hq := hq e21
    refine x_astore (lv' := [(5, rv x20), (4, rv x7), (3, .int (aI h (fR h x0 3103) (Int32.toNatClampNeg x1))), (0, rv x0), (1, .int x1), (2, rv x2)]) dX12_checkWrite_57 (by decide) (by first | rfl | (simp [rv_cat, Value.category]; done) | (simp [rv_cat, Value.category]; decide)) ?_
    refine x_aload 0 dX12_checkWrite_59 rfl ?_
    refine x_aload_n 3 dX12_checkWrite_61 rfl ?_
    have t22 : tg h6 x0 = 13 := e8.tg g1 (by decide)
    have t23 : tg h12 x0 = 13 := e14.tg t22 (by decide)
    have t24 : tg h19 x0 = 13 := e21.tg t23 (by decide)
    refine x_get (v := rv (fR h19 x0 3115)) fdX12_109 dX12_checkWrite_62 t24 rfl ?_
    refine x_acmp_eq (tgt := 115) dX12_checkWrite_65 (by decide) (fun c25 => ?_) (fun c25 => ?_)
    · replace hq := hq.1 c25
      refine xP.pick (lv' := [(0, rv x0), (1, .int x1), (3, .int (aI h (fR h x0 3103) (Int32.toNatClampNeg x1))), (5, rv x20)]) [3, 4, 2, 0] rfl ?_
      exact uX12_checkWrite_115 hq
    · replace hq := hq.2 c25
      refine x_aload 0 dX12_checkWrite_68 rfl ?_
      refine x_aload_n 3 dX12_checkWrite_70 rfl ?_
      refine x_get (v := rv (fR h19 x0 3116)) fdX12_113 dX12_checkWrite_71 t24 rfl ?_
      refine x_acmp_eq (tgt := 115) dX12_checkWrite_74 (by decide) (fun c26 => ?_) (fun c26 => ?_)
      · replace hq := hq.1 c26
        refine xP.pick (lv' := [(0, rv x0), (1, .int x1), (3, .int (aI h (fR h x0 3103) (Int32.toNatClampNeg x1))), (5, rv x20)]) [3, 4, 2, 0] rfl ?_
        exact uX12_checkWrite_115 hq
      · replace hq := hq.2 c26
        refine x_aload 0 dX12_checkWrite_77 rfl ?_
        refine x_aload_n 3 dX12_checkWrite_79 rfl ?_
        refine x_get (v := rv (fR h19 x0 3117)) fdX12_116 dX12_checkWrite_80 t24 rfl ?_
        refine x_acmp_eq (tgt := 115) dX12_checkWrite_83 (by decide) (fun c27 => ?_) (fun c27 => ?_)
        · replace hq := hq.1 c27
          refine xP.pick (lv' := [(0, rv x0), (1, .int x1), (3, .int (aI h (fR h x0 3103) (Int32.toNatClampNeg x1))), (5, rv x20)]) [3, 4, 2, 0] rfl ?_
          exact uX12_checkWrite_115 hq
        · replace hq := hq.2 c27
          refine x_aload 0 dX12_checkWrite_86 rfl ?_
          refine x_aload_n 3 dX12_checkWrite_88 rfl ?_
          refine x_get (v := rv (fR h19 x0 3118)) fdX12_119 dX12_checkWrite_89 t24 rfl ?_
          refine x_acmp_eq (tgt := 115) dX12_checkWrite_92 (by decide) (fun c28 => ?_) (fun c28 => ?_)
          · replace hq := hq.1 c28
            refine xP.pick (lv' := [(0, rv x0), (1, .int x1), (3, .int (aI h (fR h x0 3103) (Int32.toNatClampNeg x1))), (5, rv x20)]) [3, 4, 2, 0] rfl ?_
            exact uX12_checkWrite_115 hq
          · replace hq := hq.2 c28
            refine x_aload 1 dX12_checkWrite_95 rfl ?_
            have t29 : tg h19 x7 = 14 := e21.tg g16 (by decide)
            obtain ⟨g30, g31, hq⟩ := hq
            refine x_callV (Yc := YX13_characters) (as := []) (st := []) q4381 mvX13_characters t29 rfl dX12_checkWrite_97 (xle (xal1 (rv_cat _) xal0) (by decide)) (xfr g30) (xlo xsw0 (by decide) g31) (xKi hq (fun x33 h32 hq e34 => ?_) (fun _ _ q _ => q))
            replace hq := hq e34
            refine x_if_ne (tgt := 115) dX12_checkWrite_100 (by decide) (fun c35 => ?_) (fun c35 => ?_)
            · replace hq := hq.1 c35
              refine xP.pick (lv' := [(0, rv x0), (1, .int x1), (3, .int (aI h (fR h x0 3103) (Int32.toNatClampNeg x1))), (5, rv x20)]) [3, 4, 2, 0] rfl ?_
              exact uX12_checkWrite_115 hq
            · replace hq := hq.2 c35
              refine x_aload_n 3 dX12_checkWrite_103 rfl ?_
              refine x_bipush (v := 7) dX12_checkWrite_104 (by decide) ?_
              refine x_aload_n 3 dX12_checkWrite_106 rfl ?_
              have t36 : tg h32 x0 = 13 := e34.tg t24 (by decide)
              refine x_get (v := rv (fR h32 x0 3102)) fdX12_70 dX12_checkWrite_107 t36 rfl ?_
              refine x_iload_n 2 dX12_checkWrite_110 rfl ?_
              obtain ⟨g37, hq⟩ := hq
              obtain ⟨i38, hq⟩ := hq
              refine x_iald 0 (Or.inl rfl) g37 i38 dX12_checkWrite_111 ?_
              obtain ⟨g39, g40, hq⟩ := hq
              refine x_callV (Yc := YX12_refuse) (as := [.int 7, .int (aI h32 (fR h32 x0 3102) (Int32.toNatClampNeg (aI h (fR h x0 3103) (Int32.toNatClampNeg x1))))]) (st := []) q4095 mvX12_refuse t36 rfl dX12_checkWrite_112 (xle (xal1 (rv_cat _) (xal1 rfl (xal1 rfl xal0))) (by decide)) (xfr g39) (xlo xsw0 (by decide) g40) (xKv hq (fun h41 hq e43 => ?_) (fun _ _ q _ => q))
              replace hq := hq e43
              refine xP.pick (lv' := [(0, rv x0), (1, .int x1), (3, .int (aI h (fR h x0 3103) (Int32.toNatClampNeg x1))), (5, rv x20)]) [3, 4, 2, 0] rfl ?_
              exact uX12_checkWrite_115 hq
  · replace hq := hq.2 c15
    refine x_aload_n 2 dX12_checkWrite_21 rfl ?_
    refine x_aload 0 dX12_checkWrite_22 rfl ?_
    refine x_aload_n 4 dX12_checkWrite_24 rfl ?_
    have t44 : tg h12 x2 = 14 := e14.tg g9 (by decide)
    refine x_get (v := rv (fR h12 x2 3333)) fdX12_598 dX12_checkWrite_25 t44 rfl ?_
    have t45 : tg h6 x0 = 13 := e8.tg g1 (by decide)
    have t46 : tg h12 x0 = 13 := e14.tg t45 (by decide)
    obtain ⟨g47, g48, hq⟩ := hq
    refine x_callV (Yc := YX12_fits) (as := [rv x7, rv (fR h12 x2 3333)]) (st := []) q4371 mvX12_fits t46 rfl dX12_checkWrite_28 (xle (xal1 (rv_cat _) (xal1 (rv_cat _) (xal1 (rv_cat _) xal0))) (by decide)) (xfr g47) (xlo xsw0 (by decide) g48) (xKi hq (fun x50 h49 hq e51 => ?_) (fun _ _ q _ => q))
    replace hq := hq e51
    refine x_if_ne (tgt := 46) dX12_checkWrite_31 (by decide) (fun c52 => ?_) (fun c52 => ?_)
    · replace hq := hq.1 c52
      refine xP.pick (lv' := [(0, rv x0), (1, .int x1)]) [2, 3] rfl ?_
      exact uX12_checkWrite_46 hq
    · replace hq := hq.2 c52
      refine x_aload_n 2 dX12_checkWrite_34 rfl ?_
      refine x_bipush (v := 7) dX12_checkWrite_35 (by decide) ?_
      refine x_aload_n 2 dX12_checkWrite_37 rfl ?_
      have t53 : tg h49 x0 = 13 := e51.tg t46 (by decide)
      refine x_get (v := rv (fR h49 x0 3102)) fdX12_70 dX12_checkWrite_38 t53 rfl ?_
      refine x_iload_n 1 dX12_checkWrite_41 rfl ?_
      obtain ⟨g54, hq⟩ := hq
      obtain ⟨i55, hq⟩ := hq
      refine x_iald 0 (Or.inl rfl) g54 i55 dX12_checkWrite_42 ?_
      obtain ⟨g56, g57, hq⟩ := hq
      refine x_callV (Yc := YX12_refuse) (as := [.int 7, .int (aI h49 (fR h49 x0 3102) (Int32.toNatClampNeg (aI h (fR h x0 3103) (Int32.toNatClampNeg x1))))]) (st := []) q4095 mvX12_refuse t53 rfl dX12_checkWrite_43 (xle (xal1 (rv_cat _) (xal1 rfl (xal1 rfl xal0))) (by decide)) (xfr g56) (xlo xsw0 (by decide) g57) (xKv hq (fun h58 hq e60 => ?_) (fun _ _ q _ => q))
      replace hq := hq e60
      refine xP.pick (lv' := [(0, rv x0), (1, .int x1)]) [2, 3] rfl ?_
      exact uX12_checkWrite_46 hq
theorem rX12_checkWrite {G : xG} {fr lo : Nat} {x0 : Nat} {x1 : Int32} {x2 : Nat} {h : xH} {Q : Outcome → xH → Prop} (hq : bX12_checkWrite G fr lo x0 x1 x2 h Q) : xR G YX12_checkWrite fr lo [rv x0, .int x1, rv x2] h Q := by
  show xP _ _ _ _ _ (lv_args 0 _) _ _ _
  rw [show lv_args 0 [rv x0, .int x1, rv x2] = [(0, rv x0), (1, .int x1), (2, rv x2)] from (xla1 (rv_cat _) (xla1 rfl (xla1 (rv_cat _) xla0)))]
  exact uX12_checkWrite hq
set_option maxRecDepth 100000 in
theorem dX12_checkJump_0 : decode cX12_checkJump 0 = .ok (.aload_n 2, 1) := by decide +kernel
set_option maxRecDepth 100000 in
theorem dX12_checkJump_1 : decode cX12_checkJump 1 = .ok (.getfield 823, 3) := by decide +kernel
set_option maxRecDepth 100000 in
theorem dX12_checkJump_4 : decode cX12_checkJump 4 = .ok (.getfield 826, 3) := by decide +kernel
set_option maxRecDepth 100000 in
theorem dX12_checkJump_7 : decode cX12_checkJump 7 = .ok (.istore_n 3, 1) := by decide +kernel
set_option maxRecDepth 100000 in
theorem dX12_checkJump_8 : decode cX12_checkJump 8 = .ok (.aload_n 0, 1) := by decide +kernel
set_option maxRecDepth 100000 in
theorem dX12_checkJump_9 : decode cX12_checkJump 9 = .ok (.getfield 70, 3) := by decide +kernel
set_option maxRecDepth 100000 in
theorem dX12_checkJump_12 : decode cX12_checkJump 12 = .ok (.aload_n 0, 1) := by decide +kernel
set_option maxRecDepth 100000 in
theorem dX12_checkJump_13 : decode cX12_checkJump 13 = .ok (.getfield 73, 3) := by decide +kernel
set_option maxRecDepth 100000 in
theorem dX12_checkJump_16 : decode cX12_checkJump 16 = .ok (.aload_n 2, 1) := by decide +kernel
set_option maxRecDepth 100000 in
theorem dX12_checkJump_17 : decode cX12_checkJump 17 = .ok (.getfield 829, 3) := by decide +kernel
set_option maxRecDepth 100000 in
theorem dX12_checkJump_20 : decode cX12_checkJump 20 = .ok (.iaload, 1) := by decide +kernel
set_option maxRecDepth 100000 in
theorem dX12_checkJump_21 : decode cX12_checkJump 21 = .ok (.iaload, 1) := by decide +kernel
set_option maxRecDepth 100000 in
theorem dX12_checkJump_22 : decode cX12_checkJump 22 = .ok (.istore 4, 2) := by decide +kernel
set_option maxRecDepth 100000 in
theorem dX12_checkJump_24 : decode cX12_checkJump 24 = .ok (.iload_n 3, 1) := by decide +kernel
set_option maxRecDepth 100000 in
theorem dX12_checkJump_25 : decode cX12_checkJump 25 = .ok (.iconst (-1), 1) := by decide +kernel
set_option maxRecDepth 100000 in
theorem dX12_checkJump_26 : decode cX12_checkJump 26 = .ok (.if_icmp .ne 11, 3) := by decide +kernel
set_option maxRecDepth 100000 in
theorem dX12_checkJump_29 : decode cX12_checkJump 29 = .ok (.aload_n 0, 1) := by decide +kernel
set_option maxRecDepth 100000 in
theorem dX12_checkJump_30 : decode cX12_checkJump 30 = .ok (.bipush 12, 2) := by decide +kernel
set_option maxRecDepth 100000 in
theorem dX12_checkJump_32 : decode cX12_checkJump 32 = .ok (.iload 4, 2) := by decide +kernel
set_option maxRecDepth 100000 in
theorem dX12_checkJump_34 : decode cX12_checkJump 34 = .ok (.invokevirtual 570, 3) := by decide +kernel
set_option maxRecDepth 100000 in
theorem dX12_checkJump_37 : decode cX12_checkJump 37 = .ok (.aload_n 0, 1) := by decide +kernel
set_option maxRecDepth 100000 in
theorem dX12_checkJump_38 : decode cX12_checkJump 38 = .ok (.getfield 91, 3) := by decide +kernel
set_option maxRecDepth 100000 in
theorem dX12_checkJump_41 : decode cX12_checkJump 41 = .ok (.iload_n 3, 1) := by decide +kernel
set_option maxRecDepth 100000 in
theorem dX12_checkJump_42 : decode cX12_checkJump 42 = .ok (.iaload, 1) := by decide +kernel
set_option maxRecDepth 100000 in
theorem dX12_checkJump_43 : decode cX12_checkJump 43 = .ok (.iconst (-1), 1) := by decide +kernel
set_option maxRecDepth 100000 in
theorem dX12_checkJump_44 : decode cX12_checkJump 44 = .ok (.if_icmp .eq 43, 3) := by decide +kernel
set_option maxRecDepth 100000 in
theorem dX12_checkJump_47 : decode cX12_checkJump 47 = .ok (.aload_n 0, 1) := by decide +kernel
set_option maxRecDepth 100000 in
theorem dX12_checkJump_48 : decode cX12_checkJump 48 = .ok (.getfield 67, 3) := by decide +kernel
set_option maxRecDepth 100000 in
theorem dX12_checkJump_51 : decode cX12_checkJump 51 = .ok (.aload_n 0, 1) := by decide +kernel
set_option maxRecDepth 100000 in
theorem dX12_checkJump_52 : decode cX12_checkJump 52 = .ok (.getfield 91, 3) := by decide +kernel
set_option maxRecDepth 100000 in
theorem dX12_checkJump_55 : decode cX12_checkJump 55 = .ok (.iload_n 3, 1) := by decide +kernel
set_option maxRecDepth 100000 in
theorem dX12_checkJump_56 : decode cX12_checkJump 56 = .ok (.iaload, 1) := by decide +kernel
set_option maxRecDepth 100000 in
theorem dX12_checkJump_57 : decode cX12_checkJump 57 = .ok (.iaload, 1) := by decide +kernel
set_option maxRecDepth 100000 in
theorem dX12_checkJump_58 : decode cX12_checkJump 58 = .ok (.bipush 31, 2) := by decide +kernel
set_option maxRecDepth 100000 in
theorem dX12_checkJump_60 : decode cX12_checkJump 60 = .ok (.if_icmp .eq 18, 3) := by decide +kernel
set_option maxRecDepth 100000 in
theorem dX12_checkJump_63 : decode cX12_checkJump 63 = .ok (.aload_n 0, 1) := by decide +kernel
set_option maxRecDepth 100000 in
theorem dX12_checkJump_64 : decode cX12_checkJump 64 = .ok (.getfield 67, 3) := by decide +kernel
set_option maxRecDepth 100000 in
theorem dX12_checkJump_67 : decode cX12_checkJump 67 = .ok (.aload_n 0, 1) := by decide +kernel
set_option maxRecDepth 100000 in
theorem dX12_checkJump_68 : decode cX12_checkJump 68 = .ok (.getfield 91, 3) := by decide +kernel
set_option maxRecDepth 100000 in
theorem dX12_checkJump_71 : decode cX12_checkJump 71 = .ok (.iload_n 3, 1) := by decide +kernel
set_option maxRecDepth 100000 in
theorem dX12_checkJump_72 : decode cX12_checkJump 72 = .ok (.iaload, 1) := by decide +kernel
set_option maxRecDepth 100000 in
theorem dX12_checkJump_73 : decode cX12_checkJump 73 = .ok (.iaload, 1) := by decide +kernel
set_option maxRecDepth 100000 in
theorem dX12_checkJump_74 : decode cX12_checkJump 74 = .ok (.iconst 3, 1) := by decide +kernel
set_option maxRecDepth 100000 in
theorem dX12_checkJump_75 : decode cX12_checkJump 75 = .ok (.if_icmp .ne 12, 3) := by decide +kernel
set_option maxRecDepth 100000 in
theorem dX12_checkJump_78 : decode cX12_checkJump 78 = .ok (.aload_n 0, 1) := by decide +kernel
set_option maxRecDepth 100000 in
theorem dX12_checkJump_79 : decode cX12_checkJump 79 = .ok (.getfield 91, 3) := by decide +kernel
set_option maxRecDepth 100000 in
theorem dX12_checkJump_82 : decode cX12_checkJump 82 = .ok (.iload_n 3, 1) := by decide +kernel
set_option maxRecDepth 100000 in
theorem dX12_checkJump_83 : decode cX12_checkJump 83 = .ok (.iaload, 1) := by decide +kernel
set_option maxRecDepth 100000 in
theorem dX12_checkJump_84 : decode cX12_checkJump 84 = .ok (.goto 4, 3) := by decide +kernel
set_option maxRecDepth 100000 in
theorem dX12_checkJump_87 : decode cX12_checkJump 87 = .ok (.iconst (-1), 1) := by decide +kernel
set_option maxRecDepth 100000 in
theorem dX12_checkJump_88 : decode cX12_checkJump 88 = .ok (.istore 5, 2) := by decide +kernel
set_option maxRecDepth 100000 in
theorem dX12_checkJump_90 : decode cX12_checkJump 90 = .ok (.aload_n 2, 1) := by decide +kernel
set_option maxRecDepth 100000 in
theorem dX12_checkJump_91 : decode cX12_checkJump 91 = .ok (.getfield 831, 3) := by decide +kernel
set_option maxRecDepth 100000 in
theorem dX12_checkJump_94 : decode cX12_checkJump 94 = .ok (.ifCond .eq 20, 3) := by decide +kernel
set_option maxRecDepth 100000 in
theorem dX12_checkJump_97 : decode cX12_checkJump 97 = .ok (.iload 5, 2) := by decide +kernel
set_option maxRecDepth 100000 in
theorem dX12_checkJump_99 : decode cX12_checkJump 99 = .ok (.aload_n 1, 1) := by decide +kernel
set_option maxRecDepth 100000 in
theorem dX12_checkJump_100 : decode cX12_checkJump 100 = .ok (.getfield 802, 3) := by decide +kernel
set_option maxRecDepth 100000 in
theorem dX12_checkJump_103 : decode cX12_checkJump 103 = .ok (.if_icmp .ne 7, 3) := by decide +kernel
set_option maxRecDepth 100000 in
theorem dX12_checkJump_106 : decode cX12_checkJump 106 = .ok (.iconst 1, 1) := by decide +kernel
set_option maxRecDepth 100000 in
theorem dX12_checkJump_107 : decode cX12_checkJump 107 = .ok (.goto 43, 3) := by decide +kernel
set_option maxRecDepth 100000 in
theorem dX12_checkJump_110 : decode cX12_checkJump 110 = .ok (.iconst 0, 1) := by decide +kernel
set_option maxRecDepth 100000 in
theorem dX12_checkJump_111 : decode cX12_checkJump 111 = .ok (.goto 39, 3) := by decide +kernel
set_option maxRecDepth 100000 in
theorem dX12_checkJump_114 : decode cX12_checkJump 114 = .ok (.aload_n 0, 1) := by decide +kernel
set_option maxRecDepth 100000 in
theorem dX12_checkJump_115 : decode cX12_checkJump 115 = .ok (.aload_n 2, 1) := by decide +kernel
set_option maxRecDepth 100000 in
theorem dX12_checkJump_116 : decode cX12_checkJump 116 = .ok (.getfield 829, 3) := by decide +kernel
set_option maxRecDepth 100000 in
theorem dX12_checkJump_119 : decode cX12_checkJump 119 = .ok (.iload_n 3, 1) := by decide +kernel
set_option maxRecDepth 100000 in
theorem dX12_checkJump_120 : decode cX12_checkJump 120 = .ok (.invokevirtual 834, 3) := by decide +kernel
set_option maxRecDepth 100000 in
theorem dX12_checkJump_123 : decode cX12_checkJump 123 = .ok (.ifCond .ne 22, 3) := by decide +kernel
set_option maxRecDepth 100000 in
theorem dX12_checkJump_126 : decode cX12_checkJump 126 = .ok (.iload 5, 2) := by decide +kernel
set_option maxRecDepth 100000 in
theorem dX12_checkJump_128 : decode cX12_checkJump 128 = .ok (.iconst (-1), 1) := by decide +kernel
set_option maxRecDepth 100000 in
theorem dX12_checkJump_129 : decode cX12_checkJump 129 = .ok (.if_icmp .eq 20, 3) := by decide +kernel
set_option maxRecDepth 100000 in
theorem dX12_checkJump_132 : decode cX12_checkJump 132 = .ok (.aload_n 0, 1) := by decide +kernel
set_option maxRecDepth 100000 in
theorem dX12_checkJump_133 : decode cX12_checkJump 133 = .ok (.aload_n 2, 1) := by decide +kernel
set_option maxRecDepth 100000 in
theorem dX12_checkJump_134 : decode cX12_checkJump 134 = .ok (.getfield 829, 3) := by decide +kernel
set_option maxRecDepth 100000 in
theorem dX12_checkJump_137 : decode cX12_checkJump 137 = .ok (.iload 5, 2) := by decide +kernel
set_option maxRecDepth 100000 in
theorem dX12_checkJump_139 : decode cX12_checkJump 139 = .ok (.invokevirtual 834, 3) := by decide +kernel
set_option maxRecDepth 100000 in
theorem dX12_checkJump_142 : decode cX12_checkJump 142 = .ok (.ifCond .eq 7, 3) := by decide +kernel
set_option maxRecDepth 100000 in
theorem dX12_checkJump_145 : decode cX12_checkJump 145 = .ok (.iconst 1, 1) := by decide +kernel
set_option maxRecDepth 100000 in
theorem dX12_checkJump_146 : decode cX12_checkJump 146 = .ok (.goto 4, 3) := by decide +kernel
set_option maxRecDepth 100000 in
theorem dX12_checkJump_149 : decode cX12_checkJump 149 = .ok (.iconst 0, 1) := by decide +kernel
set_option maxRecDepth 100000 in
theorem dX12_checkJump_150 : decode cX12_checkJump 150 = .ok (.istore 6, 2) := by decide +kernel
set_option maxRecDepth 100000 in
theorem dX12_checkJump_152 : decode cX12_checkJump 152 = .ok (.iload 6, 2) := by decide +kernel
set_option maxRecDepth 100000 in
theorem dX12_checkJump_154 : decode cX12_checkJump 154 = .ok (.ifCond .ne 11, 3) := by decide +kernel
set_option maxRecDepth 100000 in
theorem dX12_checkJump_157 : decode cX12_checkJump 157 = .ok (.aload_n 0, 1) := by decide +kernel
set_option maxRecDepth 100000 in
theorem dX12_checkJump_158 : decode cX12_checkJump 158 = .ok (.bipush 12, 2) := by decide +kernel
set_option maxRecDepth 100000 in
theorem dX12_checkJump_160 : decode cX12_checkJump 160 = .ok (.iload 4, 2) := by decide +kernel
set_option maxRecDepth 100000 in
theorem dX12_checkJump_162 : decode cX12_checkJump 162 = .ok (.invokevirtual 570, 3) := by decide +kernel
set_option maxRecDepth 100000 in
theorem dX12_checkJump_165 : decode cX12_checkJump 165 = .ok (.aload_n 0, 1) := by decide +kernel
set_option maxRecDepth 100000 in
theorem dX12_checkJump_166 : decode cX12_checkJump 166 = .ok (.getfield 82, 3) := by decide +kernel
set_option maxRecDepth 100000 in
theorem dX12_checkJump_169 : decode cX12_checkJump 169 = .ok (.aload_n 2, 1) := by decide +kernel
set_option maxRecDepth 100000 in
theorem dX12_checkJump_170 : decode cX12_checkJump 170 = .ok (.getfield 829, 3) := by decide +kernel
set_option maxRecDepth 100000 in
theorem dX12_checkJump_173 : decode cX12_checkJump 173 = .ok (.iload_n 3, 1) := by decide +kernel
set_option maxRecDepth 100000 in
theorem dX12_checkJump_174 : decode cX12_checkJump 174 = .ok (.iastore, 1) := by decide +kernel
set_option maxRecDepth 100000 in
theorem dX12_checkJump_175 : decode cX12_checkJump 175 = .ok (.return_, 1) := by decide +kernel
set_option maxRecDepth 100000 in
def bX12_checkJump_165 (G : xG) (fr lo : Nat) (x0 : Nat) (x2 : Nat) (x3 : Int32) (h : xH) (Q : Outcome → xH → Prop) : Prop := tg h x0 = 13 ∧ tg h x2 = 28 ∧ tg h (fR h x0 3106) = 100 ∧ vp_in (fI h x2 6912) (ln h (fR h x0 3106)) ∧ (∀ h5 : xH, h5 = tI h (fR h x0 3106) (Int32.toNatClampNeg (fI h x2 6912)) x3 → Q (.returned none) h5)
set_option maxRecDepth 100000 in
theorem uX12_checkJump_165 {G : xG} {fr lo : Nat} {x0 : Nat} {x2 : Nat} {x3 : Int32} {h : xH} {Q : Outcome → xH → Prop} (hq : bX12_checkJump_165 G fr lo x0 x2 x3 h Q) : xP G YX12_checkJump fr lo 165 [(0, rv x0), (2, rv x2), (3, .int x3)] [] h Q := by
  unfold bX12_checkJump_165 at hq
  refine x_aload_n 0 dX12_checkJump_165 rfl ?_
  obtain ⟨g1, hq⟩ := hq
  refine x_get (v := rv (fR h x0 3106)) fdX12_82 dX12_checkJump_166 g1 rfl ?_
  refine x_aload_n 1 dX12_checkJump_169 rfl ?_
  obtain ⟨g2, hq⟩ := hq
  refine x_get (v := .int (fI h x2 6912)) fdX12_829 dX12_checkJump_170 g2 rfl ?_
  refine x_iload_n 2 dX12_checkJump_173 rfl ?_
  obtain ⟨g3, hq⟩ := hq
  obtain ⟨i4, hq⟩ := hq
  obtain ⟨h5, e6⟩ : ∃ y, y = tI h (fR h x0 3106) (Int32.toNatClampNeg (fI h x2 6912)) x3 := ⟨_, rfl⟩
  replace hq := hq h5 e6
  refine x_iast' g3 i4 dX12_checkJump_174 e6 ?_
  exact x_vret rfl dX12_checkJump_175 hq
set_option maxRecDepth 100000 in
def bX12_checkJump_150 (G : xG) (fr lo : Nat) (x0 : Nat) (x2 : Nat) (x3 : Int32) (x4 : Int32) (s0 : Int32) (h : xH) (Q : Outcome → xH → Prop) : Prop := ((¬ s0 = 0 → bX12_checkJump_165 G fr lo x0 x2 x3 h Q) ∧ (s0 = 0 → tg h x0 = 13 ∧ 1 ≤ fr ∧ 14 ≤ lo ∧ xRv G YX12_refuse (fr - 1) (lo - 14) [rv x0, .int 12, .int x4] h (fun h5 => xext h h5 → bX12_checkJump_165 G fr lo x0 x2 x3 h5 Q) (fun r h2 => Q (.threw r) h2)))
set_option maxRecDepth 100000 in
theorem uX12_checkJump_150 {G : xG} {fr lo : Nat} {x0 : Nat} {x2 : Nat} {x3 : Int32} {x4 : Int32} {s0 : Int32} {h : xH} {Q : Outcome → xH → Prop} (hq : bX12_checkJump_150 G fr lo x0 x2 x3 x4 s0 h Q) : xP G YX12_checkJump fr lo 150 [(0, rv x0), (2, rv x2), (3, .int x3), (4, .int x4)] [.int s0] h Q := by
  unfold bX12_checkJump_150 at hq
  refine x_istore (lv' := [(6, .int s0), (0, rv x0), (2, rv x2), (3, .int x3), (4, .int x4)]) dX12_checkJump_150 (by decide) rfl ?_
  refine x_iload 0 dX12_checkJump_152 rfl ?_
  refine x_if_ne (tgt := 165) dX12_checkJump_154 (by decide) (fun c1 => ?_) (fun c1 => ?_)
  · replace hq := hq.1 c1
    refine xP.pick (lv' := [(0, rv x0), (2, rv x2), (3, .int x3)]) [1, 2, 3] rfl ?_
    exact uX12_checkJump_165 hq
  · replace hq := hq.2 c1
    refine x_aload_n 1 dX12_checkJump_157 rfl ?_
    refine x_bipush (v := 12) dX12_checkJump_158 (by decide) ?_
    refine x_iload 4 dX12_checkJump_160 rfl ?_
    obtain ⟨g2, hq⟩ := hq
    obtain ⟨g3, g4, hq⟩ := hq
    refine x_callV (Yc := YX12_refuse) (as := [.int 12, .int x4]) (st := []) q4095 mvX12_refuse g2 rfl dX12_checkJump_162 (xle (xal1 (rv_cat _) (xal1 rfl (xal1 rfl xal0))) (by decide)) (xfr g3) (xlo xsw0 (by decide) g4) (xKv hq (fun h5 hq e7 => ?_) (fun _ _ q _ => q))
    replace hq := hq e7
    refine xP.pick (lv' := [(0, rv x0), (2, rv x2), (3, .int x3)]) [1, 2, 3] rfl ?_
    exact uX12_checkJump_165 hq
set_option maxRecDepth 100000 in
def bX12_checkJump_149 (G : xG) (fr lo : Nat) (x0 : Nat) (x2 : Nat) (x3 : Int32) (x4 : Int32) (h : xH) (Q : Outcome → xH → Prop) : Prop := bX12_checkJump_150 G fr lo x0 x2 x3 x4 0 h Q
set_option maxRecDepth 100000 in
theorem uX12_checkJump_149 {G : xG} {fr lo : Nat} {x0 : Nat} {x2 : Nat} {x3 : Int32} {x4 : Int32} {h : xH} {Q : Outcome → xH → Prop} (hq : bX12_checkJump_149 G fr lo x0 x2 x3 x4 h Q) : xP G YX12_checkJump fr lo 149 [(0, rv x0), (2, rv x2), (3, .int x3), (4, .int x4)] [] h Q := by
  unfold bX12_checkJump_149 at hq
  refine x_iconst (v := 0) dX12_checkJump_149 (by decide) ?_
  exact uX12_checkJump_150 hq
set_option maxRecDepth 100000 in
def bX12_checkJump_145 (G : xG) (fr lo : Nat) (x0 : Nat) (x2 : Nat) (x3 : Int32) (x4 : Int32) (h : xH) (Q : Outcome → xH → Prop) : Prop := bX12_checkJump_150 G fr lo x0 x2 x3 x4 1 h Q
set_option maxRecDepth 100000 in
theorem uX12_checkJump_145 {G : xG} {fr lo : Nat} {x0 : Nat} {x2 : Nat} {x3 : Int32} {x4 : Int32} {h : xH} {Q : Outcome → xH → Prop} (hq : bX12_checkJump_145 G fr lo x0 x2 x3 x4 h Q) : xP G YX12_checkJump fr lo 145 [(0, rv x0), (2, rv x2), (3, .int x3), (4, .int x4)] [] h Q := by
  unfold bX12_checkJump_145 at hq
  refine x_iconst (v := 1) dX12_checkJump_145 (by decide) ?_
  refine x_goto (tgt := 150) dX12_checkJump_146 (by decide) ?_
  exact uX12_checkJump_150 hq
set_option maxRecDepth 100000 in
def bX12_checkJump_88 (G : xG) (fr lo : Nat) (x0 : Nat) (x1 : Nat) (x2 : Nat) (x3 : Int32) (x4 : Int32) (s0 : Int32) (h : xH) (Q : Outcome → xH → Prop) : Prop := tg h x2 = 28 ∧ (((fI h x2 6914) = 0 → tg h x0 = 13 ∧ 1 ≤ fr ∧ 15 ≤ lo ∧ xRi G YX12_isWithin (fr - 1) (lo - 15) [rv x0, .int (fI h x2 6912), .int x3] h (fun x7 h6 => xext h h6 → ((¬ x7 = 0 → bX12_checkJump_145 G fr lo x0 x2 x3 x4 h6 Q) ∧ (x7 = 0 → ((s0 = (-1) → bX12_checkJump_149 G fr lo x0 x2 x3 x4 h6 Q) ∧ (¬ s0 = (-1) → 1 ≤ fr ∧ 15 ≤ lo ∧ xRi G YX12_isWithin (fr - 1) (lo - 15) [rv x0, .int (fI h6 x2 6912), .int s0] h6 (fun x16 h15 => xext h6 h15 → ((x16 = 0 → bX12_checkJump_149 G fr lo x0 x2 x3 x4 h15 Q) ∧ (¬ x16 = 0 → bX12_checkJump_145 G fr lo x0 x2 x3 x4 h15 Q))) (fun r h2 => Q (.threw r) h2)))))) (fun r h2 => Q (.threw r) h2)) ∧ (¬ (fI h x2 6914) = 0 → tg h x1 = 25 ∧ ((¬ s0 = (fI h x1 6147) → bX12_checkJump_150 G fr lo x0 x2 x3 x4 0 h Q) ∧ (s0 = (fI h x1 6147) → bX12_checkJump_150 G fr lo x0 x2 x3 x4 1 h Q))))
set_option maxRecDepth 100000 in
theorem uX12_checkJump_88 {G : xG} {fr lo : Nat} {x0 : Nat} {x1 : Nat} {x2 : Nat} {x3 : Int32} {x4 : Int32} {s0 : Int32} {h : xH} {Q : Outcome → xH → Prop} (hq : bX12_checkJump_88 G fr lo x0 x1 x2 x3 x4 s0 h Q) : xP G YX12_checkJump fr lo 88 [(0, rv x0), (1, rv x1), (2, rv x2), (3, .int x3), (4, .int x4)] [.int s0] h Q := by
  unfold bX12_checkJump_88 at hq
  refine x_istore (lv' := [(5, .int s0), (0, rv x0), (1, rv x1), (2, rv x2), (3, .int x3), (4, .int x4)]) dX12_checkJump_88 (by decide) rfl ?_
  refine x_aload_n 3 dX12_checkJump_90 rfl ?_
  obtain ⟨g1, hq⟩ := hq
  refine x_get (v := .int (fI h x2 6914)) fdX12_831 dX12_checkJump_91 g1 rfl ?_
  refine x_if_eq (tgt := 114) dX12_checkJump_94 (by decide) (fun c2 => ?_) (fun c2 => ?_)
  · replace hq := hq.1 c2
    refine x_aload_n 1 dX12_checkJump_114 rfl ?_
    refine x_aload_n 3 dX12_checkJump_115 rfl ?_
    refine x_get (v := .int (fI h x2 6912)) fdX12_829 dX12_checkJump_116 g1 rfl ?_
    refine x_iload_n 4 dX12_checkJump_119 rfl ?_
    obtain ⟨g3, hq⟩ := hq
    obtain ⟨g4, g5, hq⟩ := hq
    refine x_callV (Yc := YX12_isWithin) (as := [.int (fI h x2 6912), .int x3]) (st := []) q4476 mvX12_isWithin g3 rfl dX12_checkJump_120 (xle (xal1 (rv_cat _) (xal1 rfl (xal1 rfl xal0))) (by decide)) (xfr g4) (xlo xsw0 (by decide) g5) (xKi hq (fun x7 h6 hq e8 => ?_) (fun _ _ q _ => q))
    replace hq := hq e8
    refine x_if_ne (tgt := 145) dX12_checkJump_123 (by decide) (fun c9 => ?_) (fun c9 => ?_)
    · replace hq := hq.1 c9
      refine xP.pick (lv' := [(0, rv x0), (2, rv x2), (3, .int x3), (4, .int x4)]) [1, 3, 4, 5] rfl ?_
      exact uX12_checkJump_145 hq
    · replace hq := hq.2 c9
      refine x_iload 0 dX12_checkJump_126 rfl ?_
      refine x_iconst (v := (-1)) dX12_checkJump_128 (by decide) ?_
      refine x_icmp_eq (tgt := 149) dX12_checkJump_129 (by decide) (fun c10 => ?_) (fun c10 => ?_)
      · replace hq := hq.1 c10
        refine xP.pick (lv' := [(0, rv x0), (2, rv x2), (3, .int x3), (4, .int x4)]) [1, 3, 4, 5] rfl ?_
        exact uX12_checkJump_149 hq
      · replace hq := hq.2 c10
        refine x_aload_n 1 dX12_checkJump_132 rfl ?_
        refine x_aload_n 3 dX12_checkJump_133 rfl ?_
        have t11 : tg h6 x2 = 28 := e8.tg g1 (by decide)
        refine x_get (v := .int (fI h6 x2 6912)) fdX12_829 dX12_checkJump_134 t11 rfl ?_
        refine x_iload 0 dX12_checkJump_137 rfl ?_
        have t12 : tg h6 x0 = 13 := e8.tg g3 (by decide)
        obtain ⟨g13, g14, hq⟩ := hq
        refine x_callV (Yc := YX12_isWithin) (as := [.int (fI h6 x2 6912), .int s0]) (st := []) q4476 mvX12_isWithin t12 rfl dX12_checkJump_139 (xle (xal1 (rv_cat _) (xal1 rfl (xal1 rfl xal0))) (by decide)) (xfr g13) (xlo xsw0 (by decide) g14) (xKi hq (fun x16 h15 hq e17 => ?_) (fun _ _ q _ => q))
        replace hq := hq e17
        refine x_if_eq (tgt := 149) dX12_checkJump_142 (by decide) (fun c18 => ?_) (fun c18 => ?_)
        · replace hq := hq.1 c18
          refine xP.pick (lv' := [(0, rv x0), (2, rv x2), (3, .int x3), (4, .int x4)]) [1, 3, 4, 5] rfl ?_
          exact uX12_checkJump_149 hq
        · replace hq := hq.2 c18
          refine xP.pick (lv' := [(0, rv x0), (2, rv x2), (3, .int x3), (4, .int x4)]) [1, 3, 4, 5] rfl ?_
          exact uX12_checkJump_145 hq
  · replace hq := hq.2 c2
    refine x_iload 0 dX12_checkJump_97 rfl ?_
    refine x_aload_n 2 dX12_checkJump_99 rfl ?_
    obtain ⟨g19, hq⟩ := hq
    refine x_get (v := .int (fI h x1 6147)) fdX12_802 dX12_checkJump_100 g19 rfl ?_
    refine x_icmp_ne (tgt := 110) dX12_checkJump_103 (by decide) (fun c20 => ?_) (fun c20 => ?_)
    · replace hq := hq.1 c20
      refine x_iconst (v := 0) dX12_checkJump_110 (by decide) ?_
      refine x_goto (tgt := 150) dX12_checkJump_111 (by decide) ?_
      refine xP.pick (lv' := [(0, rv x0), (2, rv x2), (3, .int x3), (4, .int x4)]) [1, 3, 4, 5] rfl ?_
      exact uX12_checkJump_150 hq
    · replace hq := hq.2 c20
      refine x_iconst (v := 1) dX12_checkJump_106 (by decide) ?_
      refine x_goto (tgt := 150) dX12_checkJump_107 (by decide) ?_
      refine xP.pick (lv' := [(0, rv x0), (2, rv x2), (3, .int x3), (4, .int x4)]) [1, 3, 4, 5] rfl ?_
      exact uX12_checkJump_150 hq
set_option maxRecDepth 100000 in
def bX12_checkJump_87 (G : xG) (fr lo : Nat) (x0 : Nat) (x1 : Nat) (x2 : Nat) (x3 : Int32) (x4 : Int32) (h : xH) (Q : Outcome → xH → Prop) : Prop := bX12_checkJump_88 G fr lo x0 x1 x2 x3 x4 (-1) h Q
set_option maxRecDepth 100000 in
theorem uX12_checkJump_87 {G : xG} {fr lo : Nat} {x0 : Nat} {x1 : Nat} {x2 : Nat} {x3 : Int32} {x4 : Int32} {h : xH} {Q : Outcome → xH → Prop} (hq : bX12_checkJump_87 G fr lo x0 x1 x2 x3 x4 h Q) : xP G YX12_checkJump fr lo 87 [(0, rv x0), (1, rv x1), (2, rv x2), (3, .int x3), (4, .int x4)] [] h Q := by
  unfold bX12_checkJump_87 at hq
  refine x_iconst (v := (-1)) dX12_checkJump_87 (by decide) ?_
  exact uX12_checkJump_88 hq
set_option maxRecDepth 100000 in
def bX12_checkJump_78 (G : xG) (fr lo : Nat) (x0 : Nat) (x1 : Nat) (x2 : Nat) (x3 : Int32) (x4 : Int32) (h : xH) (Q : Outcome → xH → Prop) : Prop := tg h x0 = 13 ∧ tg h (fR h x0 3109) = 100 ∧ vp_in x3 (ln h (fR h x0 3109)) ∧ bX12_checkJump_88 G fr lo x0 x1 x2 x3 x4 (aI h (fR h x0 3109) (Int32.toNatClampNeg x3)) h Q
set_option maxRecDepth 100000 in
theorem uX12_checkJump_78 {G : xG} {fr lo : Nat} {x0 : Nat} {x1 : Nat} {x2 : Nat} {x3 : Int32} {x4 : Int32} {h : xH} {Q : Outcome → xH → Prop} (hq : bX12_checkJump_78 G fr lo x0 x1 x2 x3 x4 h Q) : xP G YX12_checkJump fr lo 78 [(0, rv x0), (1, rv x1), (2, rv x2), (3, .int x3), (4, .int x4)] [] h Q := by
  unfold bX12_checkJump_78 at hq
  refine x_aload_n 0 dX12_checkJump_78 rfl ?_
  obtain ⟨g1, hq⟩ := hq
  refine x_get (v := rv (fR h x0 3109)) fdX12_91 dX12_checkJump_79 g1 rfl ?_
  refine x_iload_n 3 dX12_checkJump_82 rfl ?_
  obtain ⟨g2, hq⟩ := hq
  obtain ⟨i3, hq⟩ := hq
  refine x_iald 0 (Or.inl rfl) g2 i3 dX12_checkJump_83 ?_
  refine x_goto (tgt := 88) dX12_checkJump_84 (by decide) ?_
  exact uX12_checkJump_88 hq
set_option maxRecDepth 100000 in
def bX12_checkJump_37 (G : xG) (fr lo : Nat) (x0 : Nat) (x1 : Nat) (x2 : Nat) (x3 : Int32) (x4 : Int32) (h : xH) (Q : Outcome → xH → Prop) : Prop := tg h x0 = 13 ∧ tg h (fR h x0 3109) = 100 ∧ vp_in x3 (ln h (fR h x0 3109)) ∧ (((aI h (fR h x0 3109) (Int32.toNatClampNeg x3)) = (-1) → bX12_checkJump_87 G fr lo x0 x1 x2 x3 x4 h Q) ∧ (¬ (aI h (fR h x0 3109) (Int32.toNatClampNeg x3)) = (-1) → vp_in x3 (ln h (fR h x0 3109)) ∧ tg h (fR h x0 3101) = 100 ∧ vp_in (aI h (fR h x0 3109) (Int32.toNatClampNeg x3)) (ln h (fR h x0 3101)) ∧ (((aI h (fR h x0 3101) (Int32.toNatClampNeg (aI h (fR h x0 3109) (Int32.toNatClampNeg x3)))) = 31 → bX12_checkJump_78 G fr lo x0 x1 x2 x3 x4 h Q) ∧ (¬ (aI h (fR h x0 3101) (Int32.toNatClampNeg (aI h (fR h x0 3109) (Int32.toNatClampNeg x3)))) = 31 → vp_in x3 (ln h (fR h x0 3109)) ∧ vp_in (aI h (fR h x0 3109) (Int32.toNatClampNeg x3)) (ln h (fR h x0 3101)) ∧ ((¬ (aI h (fR h x0 3101) (Int32.toNatClampNeg (aI h (fR h x0 3109) (Int32.toNatClampNeg x3)))) = 3 → bX12_checkJump_87 G fr lo x0 x1 x2 x3 x4 h Q) ∧ ((aI h (fR h x0 3101) (Int32.toNatClampNeg (aI h (fR h x0 3109) (Int32.toNatClampNeg x3)))) = 3 → bX12_checkJump_78 G fr lo x0 x1 x2 x3 x4 h Q))))))
set_option maxRecDepth 100000 in
theorem uX12_checkJump_37 {G : xG} {fr lo : Nat} {x0 : Nat} {x1 : Nat} {x2 : Nat} {x3 : Int32} {x4 : Int32} {h : xH} {Q : Outcome → xH → Prop} (hq : bX12_checkJump_37 G fr lo x0 x1 x2 x3 x4 h Q) : xP G YX12_checkJump fr lo 37 [(0, rv x0), (1, rv x1), (2, rv x2), (3, .int x3), (4, .int x4)] [] h Q := by
  unfold bX12_checkJump_37 at hq
  refine x_aload_n 0 dX12_checkJump_37 rfl ?_
  obtain ⟨g1, hq⟩ := hq
  refine x_get (v := rv (fR h x0 3109)) fdX12_91 dX12_checkJump_38 g1 rfl ?_
  refine x_iload_n 3 dX12_checkJump_41 rfl ?_
  obtain ⟨g2, hq⟩ := hq
  obtain ⟨i3, hq⟩ := hq
  refine x_iald 0 (Or.inl rfl) g2 i3 dX12_checkJump_42 ?_
  refine x_iconst (v := (-1)) dX12_checkJump_43 (by decide) ?_
  refine x_icmp_eq (tgt := 87) dX12_checkJump_44 (by decide) (fun c4 => ?_) (fun c4 => ?_)
  · replace hq := hq.1 c4
    exact uX12_checkJump_87 hq
  · replace hq := hq.2 c4
    refine x_aload_n 0 dX12_checkJump_47 rfl ?_
    refine x_get (v := rv (fR h x0 3101)) fdX12_67 dX12_checkJump_48 g1 rfl ?_
    refine x_aload_n 0 dX12_checkJump_51 rfl ?_
    refine x_get (v := rv (fR h x0 3109)) fdX12_91 dX12_checkJump_52 g1 rfl ?_
    refine x_iload_n 3 dX12_checkJump_55 rfl ?_
    obtain ⟨i5, hq⟩ := hq
    refine x_iald 0 (Or.inl rfl) g2 i5 dX12_checkJump_56 ?_
    obtain ⟨g6, hq⟩ := hq
    obtain ⟨i7, hq⟩ := hq
    refine x_iald 0 (Or.inl rfl) g6 i7 dX12_checkJump_57 ?_
    refine x_bipush (v := 31) dX12_checkJump_58 (by decide) ?_
    refine x_icmp_eq (tgt := 78) dX12_checkJump_60 (by decide) (fun c8 => ?_) (fun c8 => ?_)
    · replace hq := hq.1 c8
      exact uX12_checkJump_78 hq
    · replace hq := hq.2 c8
      refine x_aload_n 0 dX12_checkJump_63 rfl ?_
      refine x_get (v := rv (fR h x0 3101)) fdX12_67 dX12_checkJump_64 g1 rfl ?_
      refine x_aload_n 0 dX12_checkJump_67 rfl ?_
      refine x_get (v := rv (fR h x0 3109)) fdX12_91 dX12_checkJump_68 g1 rfl ?_
      refine x_iload_n 3 dX12_checkJump_71 rfl ?_
      obtain ⟨i9, hq⟩ := hq
      refine x_iald 0 (Or.inl rfl) g2 i9 dX12_checkJump_72 ?_
      obtain ⟨i10, hq⟩ := hq
      refine x_iald 0 (Or.inl rfl) g6 i10 dX12_checkJump_73 ?_
      refine x_iconst (v := 3) dX12_checkJump_74 (by decide) ?_
      refine x_icmp_ne (tgt := 87) dX12_checkJump_75 (by decide) (fun c11 => ?_) (fun c11 => ?_)
      · replace hq := hq.1 c11
        exact uX12_checkJump_87 hq
      · replace hq := hq.2 c11
        exact uX12_checkJump_78 hq
set_option maxRecDepth 100000 in
def bX12_checkJump (G : xG) (fr lo : Nat) (x0 : Nat) (x1 : Nat) (x2 : Nat) (h : xH) (Q : Outcome → xH → Prop) : Prop := tg h x2 = 28 ∧ tg h (fR h x2 6913) = 26 ∧ tg h x0 = 13 ∧ tg h (fR h x0 3103) = 100 ∧ vp_in (fI h x2 6912) (ln h (fR h x0 3103)) ∧ tg h (fR h x0 3102) = 100 ∧ vp_in (aI h (fR h x0 3103) (Int32.toNatClampNeg (fI h x2 6912))) (ln h (fR h x0 3102)) ∧ ((¬ (fI h (fR h x2 6913) 6401) = (-1) → bX12_checkJump_37 G fr lo x0 x1 x2 (fI h (fR h x2 6913) 6401) (aI h (fR h x0 3102) (Int32.toNatClampNeg (aI h (fR h x0 3103) (Int32.toNatClampNeg (fI h x2 6912))))) h Q) ∧ ((fI h (fR h x2 6913) 6401) = (-1) → 1 ≤ fr ∧ 14 ≤ lo ∧ xRv G YX12_refuse (fr - 1) (lo - 14) [rv x0, .int 12, .int (aI h (fR h x0 3102) (Int32.toNatClampNeg (aI h (fR h x0 3103) (Int32.toNatClampNeg (fI h x2 6912)))))] h (fun h11 => xext h h11 → bX12_checkJump_37 G fr lo x0 x1 x2 (fI h (fR h x2 6913) 6401) (aI h (fR h x0 3102) (Int32.toNatClampNeg (aI h (fR h x0 3103) (Int32.toNatClampNeg (fI h x2 6912))))) h11 Q) (fun r h2 => Q (.threw r) h2)))
set_option maxRecDepth 100000 in
theorem uX12_checkJump {G : xG} {fr lo : Nat} {x0 : Nat} {x1 : Nat} {x2 : Nat} {h : xH} {Q : Outcome → xH → Prop} (hq : bX12_checkJump G fr lo x0 x1 x2 h Q) : xP G YX12_checkJump fr lo 0 [(0, rv x0), (1, rv x1), (2, rv x2)] [] h Q := by
  unfold bX12_checkJump at hq
  refine x_aload_n 2 dX12_checkJump_0 rfl ?_
  obtain ⟨g1, hq⟩ := hq
  refine x_get (v := rv (fR h x2 6913)) fdX12_823 dX12_checkJump_1 g1 rfl ?_
  obtain ⟨g2, hq⟩ := hq
  refine x_get (v := .int (fI h (fR h x2 6913) 6401)) fdX12_826 dX12_checkJump_4 g2 rfl ?_
  refine x_istore_n (lv' := [(3, .int (fI h (fR h x2 6913) 6401)), (0, rv x0), (1, rv x1), (2, rv x2)]) dX12_checkJump_7 (by decide) (by first | rfl | (simp [rv_cat, Value.category]; done) | (simp [rv_cat, Value.category]; decide)) ?_
  refine x_aload_n 1 dX12_checkJump_8 rfl ?_
  obtain ⟨g3, hq⟩ := hq
  refine x_get (v := rv (fR h x0 3102)) fdX12_70 dX12_checkJump_9 g3 rfl ?_
  refine x_aload_n 1 dX12_checkJump_12 rfl ?_
  refine x_get (v := rv (fR h x0 3103)) fdX12_73 dX12_checkJump_13 g3 rfl ?_
  refine x_aload_n 3 dX12_checkJump_16 rfl ?_
  refine x_get (v := .int (fI h x2 6912)) fdX12_829 dX12_checkJump_17 g1 rfl ?_
  obtain ⟨g4, hq⟩ := hq
  obtain ⟨i5, hq⟩ := hq
  refine x_iald 0 (Or.inl rfl) g4 i5 dX12_checkJump_20 ?_
  obtain ⟨g6, hq⟩ := hq
  obtain ⟨i7, hq⟩ := hq
  refine x_iald 0 (Or.inl rfl) g6 i7 dX12_checkJump_21 ?_
  refine x_istore (lv' := [(4, .int (aI h (fR h x0 3102) (Int32.toNatClampNeg (aI h (fR h x0 3103) (Int32.toNatClampNeg (fI h x2 6912)))))), (3, .int (fI h (fR h x2 6913) 6401)), (0, rv x0), (1, rv x1), (2, rv x2)]) dX12_checkJump_22 (by decide) rfl ?_
  refine x_iload_n 1 dX12_checkJump_24 rfl ?_
  refine x_iconst (v := (-1)) dX12_checkJump_25 (by decide) ?_
  refine x_icmp_ne (tgt := 37) dX12_checkJump_26 (by decide) (fun c8 => ?_) (fun c8 => ?_)
  · replace hq := hq.1 c8
    refine xP.pick (lv' := [(0, rv x0), (1, rv x1), (2, rv x2), (3, .int (fI h (fR h x2 6913) 6401)), (4, .int (aI h (fR h x0 3102) (Int32.toNatClampNeg (aI h (fR h x0 3103) (Int32.toNatClampNeg (fI h x2 6912))))))]) [2, 3, 4, 1, 0] rfl ?_
    exact uX12_checkJump_37 hq
  · replace hq := hq.2 c8
    refine x_aload_n 2 dX12_checkJump_29 rfl ?_
    refine x_bipush (v := 12) dX12_checkJump_30 (by decide) ?_
    refine x_iload 0 dX12_checkJump_32 rfl ?_
    obtain ⟨g9, g10, hq⟩ := hq
    refine x_callV (Yc := YX12_refuse) (as := [.int 12, .int (aI h (fR h x0 3102) (Int32.toNatClampNeg (aI h (fR h x0 3103) (Int32.toNatClampNeg (fI h x2 6912)))))]) (st := []) q4095 mvX12_refuse g3 rfl dX12_checkJump_34 (xle (xal1 (rv_cat _) (xal1 rfl (xal1 rfl xal0))) (by decide)) (xfr g9) (xlo xsw0 (by decide) g10) (xKv hq (fun h11 hq e13 => ?_) (fun _ _ q _ => q))
    replace hq := hq e13
    refine xP.pick (lv' := [(0, rv x0), (1, rv x1), (2, rv x2), (3, .int (fI h (fR h x2 6913) 6401)), (4, .int (aI h (fR h x0 3102) (Int32.toNatClampNeg (aI h (fR h x0 3103) (Int32.toNatClampNeg (fI h x2 6912))))))]) [2, 3, 4, 1, 0] rfl ?_
    exact uX12_checkJump_37 hq
theorem rX12_checkJump {G : xG} {fr lo : Nat} {x0 : Nat} {x1 : Nat} {x2 : Nat} {h : xH} {Q : Outcome → xH → Prop} (hq : bX12_checkJump G fr lo x0 x1 x2 h Q) : xR G YX12_checkJump fr lo [rv x0, rv x1, rv x2] h Q := by
  show xP _ _ _ _ _ (lv_args 0 _) _ _ _
  rw [show lv_args 0 [rv x0, rv x1, rv x2] = [(0, rv x0), (1, rv x1), (2, rv x2)] from (xla1 (rv_cat _) (xla1 (rv_cat _) (xla1 (rv_cat _) xla0)))]
  exact uX12_checkJump hq
set_option maxRecDepth 100000 in
theorem dX12_isWithin_0 : decode cX12_isWithin 0 = .ok (.iload_n 1, 1) := by decide +kernel
set_option maxRecDepth 100000 in
theorem dX12_isWithin_1 : decode cX12_isWithin 1 = .ok (.istore_n 3, 1) := by decide +kernel
set_option maxRecDepth 100000 in
theorem dX12_isWithin_2 : decode cX12_isWithin 2 = .ok (.iload_n 3, 1) := by decide +kernel
set_option maxRecDepth 100000 in
theorem dX12_isWithin_3 : decode cX12_isWithin 3 = .ok (.iconst (-1), 1) := by decide +kernel
set_option maxRecDepth 100000 in
theorem dX12_isWithin_4 : decode cX12_isWithin 4 = .ok (.if_icmp .eq 18, 3) := by decide +kernel
set_option maxRecDepth 100000 in
theorem dX12_isWithin_7 : decode cX12_isWithin 7 = .ok (.iload_n 3, 1) := by decide +kernel
set_option maxRecDepth 100000 in
theorem dX12_isWithin_8 : decode cX12_isWithin 8 = .ok (.iload_n 2, 1) := by decide +kernel
set_option maxRecDepth 100000 in
theorem dX12_isWithin_9 : decode cX12_isWithin 9 = .ok (.if_icmp .eq 13, 3) := by decide +kernel
set_option maxRecDepth 100000 in
theorem dX12_isWithin_12 : decode cX12_isWithin 12 = .ok (.aload_n 0, 1) := by decide +kernel
set_option maxRecDepth 100000 in
theorem dX12_isWithin_13 : decode cX12_isWithin 13 = .ok (.getfield 91, 3) := by decide +kernel
set_option maxRecDepth 100000 in
theorem dX12_isWithin_16 : decode cX12_isWithin 16 = .ok (.iload_n 3, 1) := by decide +kernel
set_option maxRecDepth 100000 in
theorem dX12_isWithin_17 : decode cX12_isWithin 17 = .ok (.iaload, 1) := by decide +kernel
set_option maxRecDepth 100000 in
theorem dX12_isWithin_18 : decode cX12_isWithin 18 = .ok (.istore_n 3, 1) := by decide +kernel
set_option maxRecDepth 100000 in
theorem dX12_isWithin_19 : decode cX12_isWithin 19 = .ok (.goto (-17), 3) := by decide +kernel
set_option maxRecDepth 100000 in
theorem dX12_isWithin_22 : decode cX12_isWithin 22 = .ok (.iload_n 3, 1) := by decide +kernel
set_option maxRecDepth 100000 in
theorem dX12_isWithin_23 : decode cX12_isWithin 23 = .ok (.iload_n 2, 1) := by decide +kernel
set_option maxRecDepth 100000 in
theorem dX12_isWithin_24 : decode cX12_isWithin 24 = .ok (.if_icmp .ne 7, 3) := by decide +kernel
set_option maxRecDepth 100000 in
theorem dX12_isWithin_27 : decode cX12_isWithin 27 = .ok (.iconst 1, 1) := by decide +kernel
set_option maxRecDepth 100000 in
theorem dX12_isWithin_28 : decode cX12_isWithin 28 = .ok (.goto 4, 3) := by decide +kernel
set_option maxRecDepth 100000 in
theorem dX12_isWithin_31 : decode cX12_isWithin 31 = .ok (.iconst 0, 1) := by decide +kernel
set_option maxRecDepth 100000 in
theorem dX12_isWithin_32 : decode cX12_isWithin 32 = .ok (.ireturn, 1) := by decide +kernel
def lX12_isWithin_2 (G : xG) (fr lo : Nat) (x0 : Nat) (x2 : Int32) (x3 : Int32) (h : xH) (Q : Outcome → xH → Prop) : Prop := xP G YX12_isWithin fr lo 2 [(0, rv x0), (2, .int x2), (3, .int x3)] [] h Q
set_option maxRecDepth 100000 in
def bX12_isWithin_32 (G : xG) (fr lo : Nat) (s0 : Int32) (h : xH) (Q : Outcome → xH → Prop) : Prop := xbz s0 ∧ Q (.returned (some (.int s0))) h
set_option maxRecDepth 100000 in
theorem uX12_isWithin_32 {G : xG} {fr lo : Nat} {s0 : Int32} {h : xH} {Q : Outcome → xH → Prop} (hq : bX12_isWithin_32 G fr lo s0 h Q) : xP G YX12_isWithin fr lo 32 [] [.int s0] h Q := by
  unfold bX12_isWithin_32 at hq
  obtain ⟨g1, hq⟩ := hq
  exact x_iret rfl (xnZ g1) dX12_isWithin_32 hq
set_option maxRecDepth 100000 in
def bX12_isWithin_22 (G : xG) (fr lo : Nat) (x2 : Int32) (x3 : Int32) (h : xH) (Q : Outcome → xH → Prop) : Prop := ((¬ x3 = x2 → bX12_isWithin_32 G fr lo 0 h Q) ∧ (x3 = x2 → bX12_isWithin_32 G fr lo 1 h Q))
set_option maxRecDepth 100000 in
theorem uX12_isWithin_22 {G : xG} {fr lo : Nat} {x2 : Int32} {x3 : Int32} {h : xH} {Q : Outcome → xH → Prop} (hq : bX12_isWithin_22 G fr lo x2 x3 h Q) : xP G YX12_isWithin fr lo 22 [(2, .int x2), (3, .int x3)] [] h Q := by
  unfold bX12_isWithin_22 at hq
  refine x_iload_n 1 dX12_isWithin_22 rfl ?_
  refine x_iload_n 0 dX12_isWithin_23 rfl ?_
  refine x_icmp_ne (tgt := 31) dX12_isWithin_24 (by decide) (fun c1 => ?_) (fun c1 => ?_)
  · replace hq := hq.1 c1
    refine x_iconst (v := 0) dX12_isWithin_31 (by decide) ?_
    refine xP.pick (lv' := []) [] rfl ?_
    exact uX12_isWithin_32 hq
  · replace hq := hq.2 c1
    refine x_iconst (v := 1) dX12_isWithin_27 (by decide) ?_
    refine x_goto (tgt := 32) dX12_isWithin_28 (by decide) ?_
    refine xP.pick (lv' := []) [] rfl ?_
    exact uX12_isWithin_32 hq
set_option maxRecDepth 100000 in
def bX12_isWithin_2 (G : xG) (fr lo : Nat) (x0 : Nat) (x2 : Int32) (x3 : Int32) (h : xH) (Q : Outcome → xH → Prop) : Prop := ((x3 = (-1) → bX12_isWithin_22 G fr lo x2 x3 h Q) ∧ (¬ x3 = (-1) → ((x3 = x2 → bX12_isWithin_22 G fr lo x2 x3 h Q) ∧ (¬ x3 = x2 → tg h x0 = 13 ∧ tg h (fR h x0 3109) = 100 ∧ vp_in x3 (ln h (fR h x0 3109)) ∧ lX12_isWithin_2 G fr lo x0 x2 (aI h (fR h x0 3109) (Int32.toNatClampNeg x3)) h Q))))
set_option maxRecDepth 100000 in
theorem uX12_isWithin_2 {G : xG} {fr lo : Nat} {x0 : Nat} {x2 : Int32} {x3 : Int32} {h : xH} {Q : Outcome → xH → Prop} (hq : bX12_isWithin_2 G fr lo x0 x2 x3 h Q) : xP G YX12_isWithin fr lo 2 [(0, rv x0), (2, .int x2), (3, .int x3)] [] h Q := by
  unfold bX12_isWithin_2 at hq
  refine x_iload_n 2 dX12_isWithin_2 rfl ?_
  refine x_iconst (v := (-1)) dX12_isWithin_3 (by decide) ?_
  refine x_icmp_eq (tgt := 22) dX12_isWithin_4 (by decide) (fun c1 => ?_) (fun c1 => ?_)
  · replace hq := hq.1 c1
    refine xP.pick (lv' := [(2, .int x2), (3, .int x3)]) [1, 2] rfl ?_
    exact uX12_isWithin_22 hq
  · replace hq := hq.2 c1
    refine x_iload_n 2 dX12_isWithin_7 rfl ?_
    refine x_iload_n 1 dX12_isWithin_8 rfl ?_
    refine x_icmp_eq (tgt := 22) dX12_isWithin_9 (by decide) (fun c2 => ?_) (fun c2 => ?_)
    · replace hq := hq.1 c2
      refine xP.pick (lv' := [(2, .int x2), (3, .int x3)]) [1, 2] rfl ?_
      exact uX12_isWithin_22 hq
    · replace hq := hq.2 c2
      refine x_aload_n 0 dX12_isWithin_12 rfl ?_
      obtain ⟨g3, hq⟩ := hq
      refine x_get (v := rv (fR h x0 3109)) fdX12_91 dX12_isWithin_13 g3 rfl ?_
      refine x_iload_n 2 dX12_isWithin_16 rfl ?_
      obtain ⟨g4, hq⟩ := hq
      obtain ⟨i5, hq⟩ := hq
      refine x_iald 0 (Or.inl rfl) g4 i5 dX12_isWithin_17 ?_
      refine x_istore_n (lv' := [(3, .int (aI h (fR h x0 3109) (Int32.toNatClampNeg x3))), (0, rv x0), (2, .int x2)]) dX12_isWithin_18 (by decide) rfl ?_
      refine x_goto (tgt := 2) dX12_isWithin_19 (by decide) ?_
      refine xP.pick (lv' := [(0, rv x0), (2, .int x2), (3, .int (aI h (fR h x0 3109) (Int32.toNatClampNeg x3)))]) [1, 2, 0] rfl ?_
      exact hq
set_option maxRecDepth 100000 in
def bX12_isWithin (G : xG) (fr lo : Nat) (x0 : Nat) (x1 : Int32) (x2 : Int32) (h : xH) (Q : Outcome → xH → Prop) : Prop := lX12_isWithin_2 G fr lo x0 x2 x1 h Q
set_option maxRecDepth 100000 in
theorem uX12_isWithin {G : xG} {fr lo : Nat} {x0 : Nat} {x1 : Int32} {x2 : Int32} {h : xH} {Q : Outcome → xH → Prop} (hq : bX12_isWithin G fr lo x0 x1 x2 h Q) : xP G YX12_isWithin fr lo 0 [(0, rv x0), (1, .int x1), (2, .int x2)] [] h Q := by
  unfold bX12_isWithin at hq
  refine x_iload_n 1 dX12_isWithin_0 rfl ?_
  refine x_istore_n (lv' := [(3, .int x1), (0, rv x0), (1, .int x1), (2, .int x2)]) dX12_isWithin_1 (by decide) rfl ?_
  refine xP.pick (lv' := [(0, rv x0), (2, .int x2), (3, .int x1)]) [1, 3, 0] rfl ?_
  exact hq
theorem rX12_isWithin {G : xG} {fr lo : Nat} {x0 : Nat} {x1 : Int32} {x2 : Int32} {h : xH} {Q : Outcome → xH → Prop} (hq : bX12_isWithin G fr lo x0 x1 x2 h Q) : xR G YX12_isWithin fr lo [rv x0, .int x1, .int x2] h Q := by
  show xP _ _ _ _ _ (lv_args 0 _) _ _ _
  rw [show lv_args 0 [rv x0, .int x1, .int x2] = [(0, rv x0), (1, .int x1), (2, .int x2)] from (xla1 (rv_cat _) (xla1 rfl (xla1 rfl xla0)))]
  exact uX12_isWithin hq
set_option maxRecDepth 100000 in
theorem dX12_place_0 : decode cX12_place 0 = .ok (.aload_n 0, 1) := by decide +kernel
set_option maxRecDepth 100000 in
theorem dX12_place_1 : decode cX12_place 1 = .ok (.iconst 0, 1) := by decide +kernel
set_option maxRecDepth 100000 in
theorem dX12_place_2 : decode cX12_place 2 = .ok (.putfield 250, 3) := by decide +kernel
set_option maxRecDepth 100000 in
theorem dX12_place_5 : decode cX12_place 5 = .ok (.aload_n 0, 1) := by decide +kernel
set_option maxRecDepth 100000 in
theorem dX12_place_6 : decode cX12_place 6 = .ok (.getfield 63, 3) := by decide +kernel
set_option maxRecDepth 100000 in
theorem dX12_place_9 : decode cX12_place 9 = .ok (.ireturn, 1) := by decide +kernel
set_option maxRecDepth 100000 in
def bX12_place (G : xG) (fr lo : Nat) (x0 : Nat) (h : xH) (Q : Outcome → xH → Prop) : Prop := tg h x0 = 13 ∧ (∀ h2 : xH, h2 = sI h x0 3072 0 → Q (.returned (some (.int (fI h2 x0 3100)))) h2)
set_option maxRecDepth 100000 in
theorem uX12_place {G : xG} {fr lo : Nat} {x0 : Nat} {h : xH} {Q : Outcome → xH → Prop} (hq : bX12_place G fr lo x0 h Q) : xP G YX12_place fr lo 0 [(0, rv x0)] [] h Q := by
  unfold bX12_place at hq
  refine x_aload_n 0 dX12_place_0 rfl ?_
  refine x_iconst (v := 0) dX12_place_1 (by decide) ?_
  obtain ⟨g1, hq⟩ := hq
  obtain ⟨h2, e3⟩ : ∃ y, y = sI h x0 3072 0 := ⟨_, rfl⟩
  replace hq := hq h2 e3
  refine x_putI fdX12_250 xty_I1 dX12_place_2 g1 (Or.inl (by rw [g1]; rfl)) xnI rfl e3 ?_
  refine x_aload_n 0 dX12_place_5 rfl ?_
  have t4 : tg h2 x0 = 13 := by rw [e3]; exact g1
  refine x_get (v := .int (fI h2 x0 3100)) fdX12_63 dX12_place_6 t4 rfl ?_
  exact x_iret rfl rfl dX12_place_9 hq
theorem rX12_place {G : xG} {fr lo : Nat} {x0 : Nat} {h : xH} {Q : Outcome → xH → Prop} (hq : bX12_place G fr lo x0 h Q) : xR G YX12_place fr lo [rv x0] h Q := by
  show xP _ _ _ _ _ (lv_args 0 _) _ _ _
  rw [show lv_args 0 [rv x0] = [(0, rv x0)] from (xla1 (rv_cat _) xla0)]
  exact uX12_place hq
set_option maxRecDepth 100000 in
theorem dX12_run_0 : decode cX12_run 0 = .ok (.aload_n 0, 1) := by decide +kernel
set_option maxRecDepth 100000 in
theorem dX12_run_1 : decode cX12_run 1 = .ok (.iconst 0, 1) := by decide +kernel
set_option maxRecDepth 100000 in
theorem dX12_run_2 : decode cX12_run 2 = .ok (.putfield 250, 3) := by decide +kernel
set_option maxRecDepth 100000 in
theorem dX12_run_5 : decode cX12_run 5 = .ok (.aload_n 0, 1) := by decide +kernel
set_option maxRecDepth 100000 in
theorem dX12_run_6 : decode cX12_run 6 = .ok (.getfield 1092, 3) := by decide +kernel
set_option maxRecDepth 100000 in
theorem dX12_run_9 : decode cX12_run 9 = .ok (.ifCond .ne 5, 3) := by decide +kernel
set_option maxRecDepth 100000 in
theorem dX12_run_12 : decode cX12_run 12 = .ok (.iconst (-1), 1) := by decide +kernel
set_option maxRecDepth 100000 in
theorem dX12_run_13 : decode cX12_run 13 = .ok (.ireturn, 1) := by decide +kernel
set_option maxRecDepth 100000 in
theorem dX12_run_14 : decode cX12_run 14 = .ok (.aload_n 0, 1) := by decide +kernel
set_option maxRecDepth 100000 in
theorem dX12_run_15 : decode cX12_run 15 = .ok (.iconst 1, 1) := by decide +kernel
set_option maxRecDepth 100000 in
theorem dX12_run_16 : decode cX12_run 16 = .ok (.putfield 1095, 3) := by decide +kernel
set_option maxRecDepth 100000 in
theorem dX12_run_19 : decode cX12_run 19 = .ok (.aload_n 0, 1) := by decide +kernel
set_option maxRecDepth 100000 in
theorem dX12_run_20 : decode cX12_run 20 = .ok (.sipush 20000, 3) := by decide +kernel
set_option maxRecDepth 100000 in
theorem dX12_run_23 : decode cX12_run 23 = .ok (.iconst 0, 1) := by decide +kernel
set_option maxRecDepth 100000 in
theorem dX12_run_24 : decode cX12_run 24 = .ok (.iload_n 1, 1) := by decide +kernel
set_option maxRecDepth 100000 in
theorem dX12_run_25 : decode cX12_run 25 = .ok (.invokestatic 1154, 3) := by decide +kernel
set_option maxRecDepth 100000 in
theorem dX12_run_28 : decode cX12_run 28 = .ok (.invokestatic 1098, 3) := by decide +kernel
set_option maxRecDepth 100000 in
theorem dX12_run_31 : decode cX12_run 31 = .ok (.putfield 1223, 3) := by decide +kernel
set_option maxRecDepth 100000 in
theorem dX12_run_34 : decode cX12_run 34 = .ok (.aload_n 0, 1) := by decide +kernel
set_option maxRecDepth 100000 in
theorem dX12_run_35 : decode cX12_run 35 = .ok (.iconst 0, 1) := by decide +kernel
set_option maxRecDepth 100000 in
theorem dX12_run_36 : decode cX12_run 36 = .ok (.putfield 1226, 3) := by decide +kernel
set_option maxRecDepth 100000 in
theorem dX12_run_39 : decode cX12_run 39 = .ok (.aload_n 0, 1) := by decide +kernel
set_option maxRecDepth 100000 in
theorem dX12_run_40 : decode cX12_run 40 = .ok (.iconst 0, 1) := by decide +kernel
set_option maxRecDepth 100000 in
theorem dX12_run_41 : decode cX12_run 41 = .ok (.putfield 1121, 3) := by decide +kernel
set_option maxRecDepth 100000 in
theorem dX12_run_44 : decode cX12_run 44 = .ok (.aload_n 0, 1) := by decide +kernel
set_option maxRecDepth 100000 in
theorem dX12_run_45 : decode cX12_run 45 = .ok (.iconst 0, 1) := by decide +kernel
set_option maxRecDepth 100000 in
theorem dX12_run_46 : decode cX12_run 46 = .ok (.putfield 1124, 3) := by decide +kernel
set_option maxRecDepth 100000 in
theorem dX12_run_49 : decode cX12_run 49 = .ok (.aload_n 0, 1) := by decide +kernel
set_option maxRecDepth 100000 in
theorem dX12_run_50 : decode cX12_run 50 = .ok (.iconst (-1), 1) := by decide +kernel
set_option maxRecDepth 100000 in
theorem dX12_run_51 : decode cX12_run 51 = .ok (.putfield 1127, 3) := by decide +kernel
set_option maxRecDepth 100000 in
theorem dX12_run_54 : decode cX12_run 54 = .ok (.aload_n 0, 1) := by decide +kernel
set_option maxRecDepth 100000 in
theorem dX12_run_55 : decode cX12_run 55 = .ok (.iconst 0, 1) := by decide +kernel
set_option maxRecDepth 100000 in
theorem dX12_run_56 : decode cX12_run 56 = .ok (.putfield 1360, 3) := by decide +kernel
set_option maxRecDepth 100000 in
theorem dX12_run_59 : decode cX12_run 59 = .ok (.aload_n 0, 1) := by decide +kernel
set_option maxRecDepth 100000 in
theorem dX12_run_60 : decode cX12_run 60 = .ok (.iconst 0, 1) := by decide +kernel
set_option maxRecDepth 100000 in
theorem dX12_run_61 : decode cX12_run 61 = .ok (.putfield 1382, 3) := by decide +kernel
set_option maxRecDepth 100000 in
theorem dX12_run_64 : decode cX12_run 64 = .ok (.aload_n 0, 1) := by decide +kernel
set_option maxRecDepth 100000 in
theorem dX12_run_65 : decode cX12_run 65 = .ok (.iconst 0, 1) := by decide +kernel
set_option maxRecDepth 100000 in
theorem dX12_run_66 : decode cX12_run 66 = .ok (.putfield 1436, 3) := by decide +kernel
set_option maxRecDepth 100000 in
theorem dX12_run_69 : decode cX12_run 69 = .ok (.aload_n 0, 1) := by decide +kernel
set_option maxRecDepth 100000 in
theorem dX12_run_70 : decode cX12_run 70 = .ok (.iconst 0, 1) := by decide +kernel
set_option maxRecDepth 100000 in
theorem dX12_run_71 : decode cX12_run 71 = .ok (.putfield 1439, 3) := by decide +kernel
set_option maxRecDepth 100000 in
theorem dX12_run_74 : decode cX12_run 74 = .ok (.aload_n 0, 1) := by decide +kernel
set_option maxRecDepth 100000 in
theorem dX12_run_75 : decode cX12_run 75 = .ok (.iconst 0, 1) := by decide +kernel
set_option maxRecDepth 100000 in
theorem dX12_run_76 : decode cX12_run 76 = .ok (.putfield 1433, 3) := by decide +kernel
set_option maxRecDepth 100000 in
theorem dX12_run_79 : decode cX12_run 79 = .ok (.aload_n 0, 1) := by decide +kernel
set_option maxRecDepth 100000 in
theorem dX12_run_80 : decode cX12_run 80 = .ok (.iconst 0, 1) := by decide +kernel
set_option maxRecDepth 100000 in
theorem dX12_run_81 : decode cX12_run 81 = .ok (.putfield 1348, 3) := by decide +kernel
set_option maxRecDepth 100000 in
theorem dX12_run_84 : decode cX12_run 84 = .ok (.aload_n 0, 1) := by decide +kernel
set_option maxRecDepth 100000 in
theorem dX12_run_85 : decode cX12_run 85 = .ok (.iconst 0, 1) := by decide +kernel
set_option maxRecDepth 100000 in
theorem dX12_run_86 : decode cX12_run 86 = .ok (.putfield 1175, 3) := by decide +kernel
set_option maxRecDepth 100000 in
theorem dX12_run_89 : decode cX12_run 89 = .ok (.aload_n 0, 1) := by decide +kernel
set_option maxRecDepth 100000 in
theorem dX12_run_90 : decode cX12_run 90 = .ok (.iconst 0, 1) := by decide +kernel
set_option maxRecDepth 100000 in
theorem dX12_run_91 : decode cX12_run 91 = .ok (.putfield 1186, 3) := by decide +kernel
set_option maxRecDepth 100000 in
theorem dX12_run_94 : decode cX12_run 94 = .ok (.iconst 0, 1) := by decide +kernel
set_option maxRecDepth 100000 in
theorem dX12_run_95 : decode cX12_run 95 = .ok (.istore_n 2, 1) := by decide +kernel
set_option maxRecDepth 100000 in
theorem dX12_run_96 : decode cX12_run 96 = .ok (.iload_n 2, 1) := by decide +kernel
set_option maxRecDepth 100000 in
theorem dX12_run_97 : decode cX12_run 97 = .ok (.ldc 228, 2) := by decide +kernel
set_option maxRecDepth 100000 in
theorem dX12_run_99 : decode cX12_run 99 = .ok (.if_icmp .ge 18, 3) := by decide +kernel
set_option maxRecDepth 100000 in
theorem dX12_run_102 : decode cX12_run 102 = .ok (.aload_n 0, 1) := by decide +kernel
set_option maxRecDepth 100000 in
theorem dX12_run_103 : decode cX12_run 103 = .ok (.getfield 241, 3) := by decide +kernel
set_option maxRecDepth 100000 in
theorem dX12_run_106 : decode cX12_run 106 = .ok (.iload_n 2, 1) := by decide +kernel
set_option maxRecDepth 100000 in
theorem dX12_run_107 : decode cX12_run 107 = .ok (.iload_n 2, 1) := by decide +kernel
set_option maxRecDepth 100000 in
theorem dX12_run_108 : decode cX12_run 108 = .ok (.iconst 1, 1) := by decide +kernel
set_option maxRecDepth 100000 in
theorem dX12_run_109 : decode cX12_run 109 = .ok (.iadd, 1) := by decide +kernel
set_option maxRecDepth 100000 in
theorem dX12_run_110 : decode cX12_run 110 = .ok (.iastore, 1) := by decide +kernel
set_option maxRecDepth 100000 in
theorem dX12_run_111 : decode cX12_run 111 = .ok (.iinc 2 1, 3) := by decide +kernel
set_option maxRecDepth 100000 in
theorem dX12_run_114 : decode cX12_run 114 = .ok (.goto (-18), 3) := by decide +kernel
set_option maxRecDepth 100000 in
theorem dX12_run_117 : decode cX12_run 117 = .ok (.aload_n 0, 1) := by decide +kernel
set_option maxRecDepth 100000 in
theorem dX12_run_118 : decode cX12_run 118 = .ok (.getfield 241, 3) := by decide +kernel
set_option maxRecDepth 100000 in
theorem dX12_run_121 : decode cX12_run 121 = .ok (.ldc_w 1496, 3) := by decide +kernel
set_option maxRecDepth 100000 in
theorem dX12_run_124 : decode cX12_run 124 = .ok (.iconst (-1), 1) := by decide +kernel
set_option maxRecDepth 100000 in
theorem dX12_run_125 : decode cX12_run 125 = .ok (.iastore, 1) := by decide +kernel
set_option maxRecDepth 100000 in
theorem dX12_run_126 : decode cX12_run 126 = .ok (.aload_n 0, 1) := by decide +kernel
set_option maxRecDepth 100000 in
theorem dX12_run_127 : decode cX12_run 127 = .ok (.iconst 0, 1) := by decide +kernel
set_option maxRecDepth 100000 in
theorem dX12_run_128 : decode cX12_run 128 = .ok (.putfield 1183, 3) := by decide +kernel
set_option maxRecDepth 100000 in
theorem dX12_run_131 : decode cX12_run 131 = .ok (.aload_n 0, 1) := by decide +kernel
set_option maxRecDepth 100000 in
theorem dX12_run_132 : decode cX12_run 132 = .ok (.iconst 0, 1) := by decide +kernel
set_option maxRecDepth 100000 in
theorem dX12_run_133 : decode cX12_run 133 = .ok (.putfield 1130, 3) := by decide +kernel
set_option maxRecDepth 100000 in
theorem dX12_run_136 : decode cX12_run 136 = .ok (.aload_n 0, 1) := by decide +kernel
set_option maxRecDepth 100000 in
theorem dX12_run_137 : decode cX12_run 137 = .ok (.iconst 1, 1) := by decide +kernel
set_option maxRecDepth 100000 in
theorem dX12_run_138 : decode cX12_run 138 = .ok (.putfield 1357, 3) := by decide +kernel
set_option maxRecDepth 100000 in
theorem dX12_run_141 : decode cX12_run 141 = .ok (.aload_n 0, 1) := by decide +kernel
set_option maxRecDepth 100000 in
theorem dX12_run_142 : decode cX12_run 142 = .ok (.iconst 0, 1) := by decide +kernel
set_option maxRecDepth 100000 in
theorem dX12_run_143 : decode cX12_run 143 = .ok (.putfield 1376, 3) := by decide +kernel
set_option maxRecDepth 100000 in
theorem dX12_run_146 : decode cX12_run 146 = .ok (.aload_n 0, 1) := by decide +kernel
set_option maxRecDepth 100000 in
theorem dX12_run_147 : decode cX12_run 147 = .ok (.getfield 179, 3) := by decide +kernel
set_option maxRecDepth 100000 in
theorem dX12_run_150 : decode cX12_run 150 = .ok (.iconst 0, 1) := by decide +kernel
set_option maxRecDepth 100000 in
theorem dX12_run_151 : decode cX12_run 151 = .ok (.iconst 0, 1) := by decide +kernel
set_option maxRecDepth 100000 in
theorem dX12_run_152 : decode cX12_run 152 = .ok (.iastore, 1) := by decide +kernel
set_option maxRecDepth 100000 in
theorem dX12_run_153 : decode cX12_run 153 = .ok (.aload_n 0, 1) := by decide +kernel
set_option maxRecDepth 100000 in
theorem dX12_run_154 : decode cX12_run 154 = .ok (.getfield 182, 3) := by decide +kernel
set_option maxRecDepth 100000 in
theorem dX12_run_157 : decode cX12_run 157 = .ok (.iconst 0, 1) := by decide +kernel
set_option maxRecDepth 100000 in
theorem dX12_run_158 : decode cX12_run 158 = .ok (.iconst (-1), 1) := by decide +kernel
set_option maxRecDepth 100000 in
theorem dX12_run_159 : decode cX12_run 159 = .ok (.iastore, 1) := by decide +kernel
set_option maxRecDepth 100000 in
theorem dX12_run_160 : decode cX12_run 160 = .ok (.aload_n 0, 1) := by decide +kernel
set_option maxRecDepth 100000 in
theorem dX12_run_161 : decode cX12_run 161 = .ok (.getfield 185, 3) := by decide +kernel
set_option maxRecDepth 100000 in
theorem dX12_run_164 : decode cX12_run 164 = .ok (.iconst 0, 1) := by decide +kernel
set_option maxRecDepth 100000 in
theorem dX12_run_165 : decode cX12_run 165 = .ok (.iconst 0, 1) := by decide +kernel
set_option maxRecDepth 100000 in
theorem dX12_run_166 : decode cX12_run 166 = .ok (.iastore, 1) := by decide +kernel
set_option maxRecDepth 100000 in
theorem dX12_run_167 : decode cX12_run 167 = .ok (.aload_n 0, 1) := by decide +kernel
set_option maxRecDepth 100000 in
theorem dX12_run_168 : decode cX12_run 168 = .ok (.aload_n 0, 1) := by decide +kernel
set_option maxRecDepth 100000 in
theorem dX12_run_169 : decode cX12_run 169 = .ok (.getfield 743, 3) := by decide +kernel
set_option maxRecDepth 100000 in
theorem dX12_run_172 : decode cX12_run 172 = .ok (.sipush 20000, 3) := by decide +kernel
set_option maxRecDepth 100000 in
theorem dX12_run_175 : decode cX12_run 175 = .ok (.if_icmp .gt 7, 3) := by decide +kernel
set_option maxRecDepth 100000 in
theorem dX12_run_178 : decode cX12_run 178 = .ok (.iconst 1, 1) := by decide +kernel
set_option maxRecDepth 100000 in
theorem dX12_run_179 : decode cX12_run 179 = .ok (.goto 4, 3) := by decide +kernel
set_option maxRecDepth 100000 in
theorem dX12_run_182 : decode cX12_run 182 = .ok (.iconst 0, 1) := by decide +kernel
set_option maxRecDepth 100000 in
theorem dX12_run_183 : decode cX12_run 183 = .ok (.putfield 1497, 3) := by decide +kernel
set_option maxRecDepth 100000 in
theorem dX12_run_186 : decode cX12_run 186 = .ok (.aload_n 0, 1) := by decide +kernel
set_option maxRecDepth 100000 in
theorem dX12_run_187 : decode cX12_run 187 = .ok (.getfield 1497, 3) := by decide +kernel
set_option maxRecDepth 100000 in
theorem dX12_run_190 : decode cX12_run 190 = .ok (.ifCond .ne 18, 3) := by decide +kernel
set_option maxRecDepth 100000 in
theorem dX12_run_193 : decode cX12_run 193 = .ok (.aload_n 0, 1) := by decide +kernel
set_option maxRecDepth 100000 in
theorem dX12_run_194 : decode cX12_run 194 = .ok (.bipush 14, 2) := by decide +kernel
set_option maxRecDepth 100000 in
theorem dX12_run_196 : decode cX12_run 196 = .ok (.aload_n 0, 1) := by decide +kernel
set_option maxRecDepth 100000 in
theorem dX12_run_197 : decode cX12_run 197 = .ok (.getfield 1107, 3) := by decide +kernel
set_option maxRecDepth 100000 in
theorem dX12_run_200 : decode cX12_run 200 = .ok (.invokevirtual 1142, 3) := by decide +kernel
set_option maxRecDepth 100000 in
theorem dX12_run_203 : decode cX12_run 203 = .ok (.aload_n 0, 1) := by decide +kernel
set_option maxRecDepth 100000 in
theorem dX12_run_204 : decode cX12_run 204 = .ok (.getfield 1124, 3) := by decide +kernel
set_option maxRecDepth 100000 in
theorem dX12_run_207 : decode cX12_run 207 = .ok (.ireturn, 1) := by decide +kernel
set_option maxRecDepth 100000 in
theorem dX12_run_208 : decode cX12_run 208 = .ok (.aload_n 0, 1) := by decide +kernel
set_option maxRecDepth 100000 in
theorem dX12_run_209 : decode cX12_run 209 = .ok (.iconst 0, 1) := by decide +kernel
set_option maxRecDepth 100000 in
theorem dX12_run_210 : decode cX12_run 210 = .ok (.aload_n 0, 1) := by decide +kernel
set_option maxRecDepth 100000 in
theorem dX12_run_211 : decode cX12_run 211 = .ok (.getfield 743, 3) := by decide +kernel
set_option maxRecDepth 100000 in
theorem dX12_run_214 : decode cX12_run 214 = .ok (.invokevirtual 1178, 3) := by decide +kernel
set_option maxRecDepth 100000 in
theorem dX12_run_217 : decode cX12_run 217 = .ok (.aload_n 0, 1) := by decide +kernel
set_option maxRecDepth 100000 in
theorem dX12_run_218 : decode cX12_run 218 = .ok (.aload_n 0, 1) := by decide +kernel
set_option maxRecDepth 100000 in
theorem dX12_run_219 : decode cX12_run 219 = .ok (.getfield 743, 3) := by decide +kernel
set_option maxRecDepth 100000 in
theorem dX12_run_222 : decode cX12_run 222 = .ok (.putfield 1360, 3) := by decide +kernel
set_option maxRecDepth 100000 in
theorem dX12_run_225 : decode cX12_run 225 = .ok (.aload_n 0, 1) := by decide +kernel
set_option maxRecDepth 100000 in
theorem dX12_run_226 : decode cX12_run 226 = .ok (.aload_n 0, 1) := by decide +kernel
set_option maxRecDepth 100000 in
theorem dX12_run_227 : decode cX12_run 227 = .ok (.getfield 743, 3) := by decide +kernel
set_option maxRecDepth 100000 in
theorem dX12_run_230 : decode cX12_run 230 = .ok (.putfield 1382, 3) := by decide +kernel
set_option maxRecDepth 100000 in
theorem dX12_run_233 : decode cX12_run 233 = .ok (.iconst 0, 1) := by decide +kernel
set_option maxRecDepth 100000 in
theorem dX12_run_234 : decode cX12_run 234 = .ok (.istore_n 2, 1) := by decide +kernel
set_option maxRecDepth 100000 in
theorem dX12_run_235 : decode cX12_run 235 = .ok (.iload_n 2, 1) := by decide +kernel
set_option maxRecDepth 100000 in
theorem dX12_run_236 : decode cX12_run 236 = .ok (.aload_n 0, 1) := by decide +kernel
set_option maxRecDepth 100000 in
theorem dX12_run_237 : decode cX12_run 237 = .ok (.getfield 717, 3) := by decide +kernel
set_option maxRecDepth 100000 in
theorem dX12_run_240 : decode cX12_run 240 = .ok (.invokevirtual 554, 3) := by decide +kernel
set_option maxRecDepth 100000 in
theorem dX12_run_243 : decode cX12_run 243 = .ok (.if_icmp .ge 53, 3) := by decide +kernel
set_option maxRecDepth 100000 in
theorem dX12_run_246 : decode cX12_run 246 = .ok (.aload_n 0, 1) := by decide +kernel
set_option maxRecDepth 100000 in
theorem dX12_run_247 : decode cX12_run 247 = .ok (.getfield 717, 3) := by decide +kernel
set_option maxRecDepth 100000 in
theorem dX12_run_250 : decode cX12_run 250 = .ok (.iload_n 2, 1) := by decide +kernel
set_option maxRecDepth 100000 in
theorem dX12_run_251 : decode cX12_run 251 = .ok (.invokevirtual 556, 3) := by decide +kernel
set_option maxRecDepth 100000 in
theorem dX12_run_254 : decode cX12_run 254 = .ok (.checkcast 100, 3) := by decide +kernel
set_option maxRecDepth 100000 in
theorem dX12_run_257 : decode cX12_run 257 = .ok (.astore_n 3, 1) := by decide +kernel
set_option maxRecDepth 100000 in
theorem dX12_run_258 : decode cX12_run 258 = .ok (.aload_n 3, 1) := by decide +kernel
set_option maxRecDepth 100000 in
theorem dX12_run_259 : decode cX12_run 259 = .ok (.getfield 577, 3) := by decide +kernel
set_option maxRecDepth 100000 in
theorem dX12_run_262 : decode cX12_run 262 = .ok (.iconst 3, 1) := by decide +kernel
set_option maxRecDepth 100000 in
theorem dX12_run_263 : decode cX12_run 263 = .ok (.if_icmp .ne 27, 3) := by decide +kernel
set_option maxRecDepth 100000 in
theorem dX12_run_266 : decode cX12_run 266 = .ok (.aload_n 3, 1) := by decide +kernel
set_option maxRecDepth 100000 in
theorem dX12_run_267 : decode cX12_run 267 = .ok (.getfield 612, 3) := by decide +kernel
set_option maxRecDepth 100000 in
theorem dX12_run_270 : decode cX12_run 270 = .ok (.getfield 845, 3) := by decide +kernel
set_option maxRecDepth 100000 in
theorem dX12_run_273 : decode cX12_run 273 = .ok (.bipush 10, 2) := by decide +kernel
set_option maxRecDepth 100000 in
theorem dX12_run_275 : decode cX12_run 275 = .ok (.if_icmp .ne 15, 3) := by decide +kernel
set_option maxRecDepth 100000 in
theorem dX12_run_278 : decode cX12_run 278 = .ok (.aload_n 0, 1) := by decide +kernel
set_option maxRecDepth 100000 in
theorem dX12_run_279 : decode cX12_run 279 = .ok (.aload_n 3, 1) := by decide +kernel
set_option maxRecDepth 100000 in
theorem dX12_run_280 : decode cX12_run 280 = .ok (.getfield 713, 3) := by decide +kernel
set_option maxRecDepth 100000 in
theorem dX12_run_283 : decode cX12_run 283 = .ok (.aload_n 3, 1) := by decide +kernel
set_option maxRecDepth 100000 in
theorem dX12_run_284 : decode cX12_run 284 = .ok (.getfield 612, 3) := by decide +kernel
set_option maxRecDepth 100000 in
theorem dX12_run_287 : decode cX12_run 287 = .ok (.invokevirtual 1379, 3) := by decide +kernel
set_option maxRecDepth 100000 in
theorem dX12_run_290 : decode cX12_run 290 = .ok (.iinc 2 1, 3) := by decide +kernel
set_option maxRecDepth 100000 in
theorem dX12_run_293 : decode cX12_run 293 = .ok (.goto (-58), 3) := by decide +kernel
set_option maxRecDepth 100000 in
theorem dX12_run_296 : decode cX12_run 296 = .ok (.iconst 0, 1) := by decide +kernel
set_option maxRecDepth 100000 in
theorem dX12_run_297 : decode cX12_run 297 = .ok (.istore_n 2, 1) := by decide +kernel
set_option maxRecDepth 100000 in
theorem dX12_run_298 : decode cX12_run 298 = .ok (.iload_n 2, 1) := by decide +kernel
set_option maxRecDepth 100000 in
theorem dX12_run_299 : decode cX12_run 299 = .ok (.aload_n 0, 1) := by decide +kernel
set_option maxRecDepth 100000 in
theorem dX12_run_300 : decode cX12_run 300 = .ok (.getfield 147, 3) := by decide +kernel
set_option maxRecDepth 100000 in
theorem dX12_run_303 : decode cX12_run 303 = .ok (.invokevirtual 554, 3) := by decide +kernel
set_option maxRecDepth 100000 in
theorem dX12_run_306 : decode cX12_run 306 = .ok (.if_icmp .ge 77, 3) := by decide +kernel
set_option maxRecDepth 100000 in
theorem dX12_run_309 : decode cX12_run 309 = .ok (.aload_n 0, 1) := by decide +kernel
set_option maxRecDepth 100000 in
theorem dX12_run_310 : decode cX12_run 310 = .ok (.aload_n 0, 1) := by decide +kernel
set_option maxRecDepth 100000 in
theorem dX12_run_311 : decode cX12_run 311 = .ok (.getfield 147, 3) := by decide +kernel
set_option maxRecDepth 100000 in
theorem dX12_run_314 : decode cX12_run 314 = .ok (.iload_n 2, 1) := by decide +kernel
set_option maxRecDepth 100000 in
theorem dX12_run_315 : decode cX12_run 315 = .ok (.invokevirtual 556, 3) := by decide +kernel
set_option maxRecDepth 100000 in
theorem dX12_run_318 : decode cX12_run 318 = .ok (.checkcast 100, 3) := by decide +kernel
set_option maxRecDepth 100000 in
theorem dX12_run_321 : decode cX12_run 321 = .ok (.invokevirtual 1304, 3) := by decide +kernel
set_option maxRecDepth 100000 in
theorem dX12_run_324 : decode cX12_run 324 = .ok (.istore_n 3, 1) := by decide +kernel
set_option maxRecDepth 100000 in
theorem dX12_run_325 : decode cX12_run 325 = .ok (.aload_n 0, 1) := by decide +kernel
set_option maxRecDepth 100000 in
theorem dX12_run_326 : decode cX12_run 326 = .ok (.getfield 247, 3) := by decide +kernel
set_option maxRecDepth 100000 in
theorem dX12_run_329 : decode cX12_run 329 = .ok (.iload_n 2, 1) := by decide +kernel
set_option maxRecDepth 100000 in
theorem dX12_run_330 : decode cX12_run 330 = .ok (.iload_n 3, 1) := by decide +kernel
set_option maxRecDepth 100000 in
theorem dX12_run_331 : decode cX12_run 331 = .ok (.iastore, 1) := by decide +kernel
set_option maxRecDepth 100000 in
theorem dX12_run_332 : decode cX12_run 332 = .ok (.aload_n 0, 1) := by decide +kernel
set_option maxRecDepth 100000 in
theorem dX12_run_333 : decode cX12_run 333 = .ok (.getfield 222, 3) := by decide +kernel
set_option maxRecDepth 100000 in
theorem dX12_run_336 : decode cX12_run 336 = .ok (.iload_n 3, 1) := by decide +kernel
set_option maxRecDepth 100000 in
theorem dX12_run_337 : decode cX12_run 337 = .ok (.iconst 1, 1) := by decide +kernel
set_option maxRecDepth 100000 in
theorem dX12_run_338 : decode cX12_run 338 = .ok (.bastore, 1) := by decide +kernel
set_option maxRecDepth 100000 in
theorem dX12_run_339 : decode cX12_run 339 = .ok (.iconst 0, 1) := by decide +kernel
set_option maxRecDepth 100000 in
theorem dX12_run_340 : decode cX12_run 340 = .ok (.istore 4, 2) := by decide +kernel
set_option maxRecDepth 100000 in
theorem dX12_run_342 : decode cX12_run 342 = .ok (.iload 4, 2) := by decide +kernel
set_option maxRecDepth 100000 in
theorem dX12_run_344 : decode cX12_run 344 = .ok (.aload_n 0, 1) := by decide +kernel
set_option maxRecDepth 100000 in
theorem dX12_run_345 : decode cX12_run 345 = .ok (.getfield 19, 3) := by decide +kernel
set_option maxRecDepth 100000 in
theorem dX12_run_348 : decode cX12_run 348 = .ok (.iload_n 2, 1) := by decide +kernel
set_option maxRecDepth 100000 in
theorem dX12_run_349 : decode cX12_run 349 = .ok (.iaload, 1) := by decide +kernel
set_option maxRecDepth 100000 in
theorem dX12_run_350 : decode cX12_run 350 = .ok (.if_icmp .ge 27, 3) := by decide +kernel
set_option maxRecDepth 100000 in
theorem dX12_run_353 : decode cX12_run 353 = .ok (.aload_n 0, 1) := by decide +kernel
set_option maxRecDepth 100000 in
theorem dX12_run_354 : decode cX12_run 354 = .ok (.iload_n 3, 1) := by decide +kernel
set_option maxRecDepth 100000 in
theorem dX12_run_355 : decode cX12_run 355 = .ok (.aload_n 0, 1) := by decide +kernel
set_option maxRecDepth 100000 in
theorem dX12_run_356 : decode cX12_run 356 = .ok (.getfield 16, 3) := by decide +kernel
set_option maxRecDepth 100000 in
theorem dX12_run_359 : decode cX12_run 359 = .ok (.sipush 3000, 3) := by decide +kernel
set_option maxRecDepth 100000 in
theorem dX12_run_362 : decode cX12_run 362 = .ok (.iload_n 2, 1) := by decide +kernel
set_option maxRecDepth 100000 in
theorem dX12_run_363 : decode cX12_run 363 = .ok (.imul, 1) := by decide +kernel
set_option maxRecDepth 100000 in
theorem dX12_run_364 : decode cX12_run 364 = .ok (.iload 4, 2) := by decide +kernel
set_option maxRecDepth 100000 in
theorem dX12_run_366 : decode cX12_run 366 = .ok (.iadd, 1) := by decide +kernel
set_option maxRecDepth 100000 in
theorem dX12_run_367 : decode cX12_run 367 = .ok (.baload, 1) := by decide +kernel
set_option maxRecDepth 100000 in
theorem dX12_run_368 : decode cX12_run 368 = .ok (.invokevirtual 1198, 3) := by decide +kernel
set_option maxRecDepth 100000 in
theorem dX12_run_371 : decode cX12_run 371 = .ok (.iinc 4 1, 3) := by decide +kernel
set_option maxRecDepth 100000 in
theorem dX12_run_374 : decode cX12_run 374 = .ok (.goto (-32), 3) := by decide +kernel
set_option maxRecDepth 100000 in
theorem dX12_run_377 : decode cX12_run 377 = .ok (.iinc 2 1, 3) := by decide +kernel
set_option maxRecDepth 100000 in
theorem dX12_run_380 : decode cX12_run 380 = .ok (.goto (-82), 3) := by decide +kernel
set_option maxRecDepth 100000 in
theorem dX12_run_383 : decode cX12_run 383 = .ok (.aload_n 0, 1) := by decide +kernel
set_option maxRecDepth 100000 in
theorem dX12_run_384 : decode cX12_run 384 = .ok (.getfield 727, 3) := by decide +kernel
set_option maxRecDepth 100000 in
theorem dX12_run_387 : decode cX12_run 387 = .ok (.ifnull 19, 3) := by decide +kernel
set_option maxRecDepth 100000 in
theorem dX12_run_390 : decode cX12_run 390 = .ok (.aload_n 0, 1) := by decide +kernel
set_option maxRecDepth 100000 in
theorem dX12_run_391 : decode cX12_run 391 = .ok (.aload_n 0, 1) := by decide +kernel
set_option maxRecDepth 100000 in
theorem dX12_run_392 : decode cX12_run 392 = .ok (.aload_n 0, 1) := by decide +kernel
set_option maxRecDepth 100000 in
theorem dX12_run_393 : decode cX12_run 393 = .ok (.getfield 727, 3) := by decide +kernel
set_option maxRecDepth 100000 in
theorem dX12_run_396 : decode cX12_run 396 = .ok (.invokevirtual 1304, 3) := by decide +kernel
set_option maxRecDepth 100000 in
theorem dX12_run_399 : decode cX12_run 399 = .ok (.aload_n 0, 1) := by decide +kernel
set_option maxRecDepth 100000 in
theorem dX12_run_400 : decode cX12_run 400 = .ok (.getfield 1107, 3) := by decide +kernel
set_option maxRecDepth 100000 in
theorem dX12_run_403 : decode cX12_run 403 = .ok (.invokevirtual 1421, 3) := by decide +kernel
set_option maxRecDepth 100000 in
theorem dX12_run_406 : decode cX12_run 406 = .ok (.aload_n 0, 1) := by decide +kernel
set_option maxRecDepth 100000 in
theorem dX12_run_407 : decode cX12_run 407 = .ok (.getfield 731, 3) := by decide +kernel
set_option maxRecDepth 100000 in
theorem dX12_run_410 : decode cX12_run 410 = .ok (.ifnull 15, 3) := by decide +kernel
set_option maxRecDepth 100000 in
theorem dX12_run_413 : decode cX12_run 413 = .ok (.aload_n 0, 1) := by decide +kernel
set_option maxRecDepth 100000 in
theorem dX12_run_414 : decode cX12_run 414 = .ok (.aload_n 0, 1) := by decide +kernel
set_option maxRecDepth 100000 in
theorem dX12_run_415 : decode cX12_run 415 = .ok (.aload_n 0, 1) := by decide +kernel
set_option maxRecDepth 100000 in
theorem dX12_run_416 : decode cX12_run 416 = .ok (.getfield 731, 3) := by decide +kernel
set_option maxRecDepth 100000 in
theorem dX12_run_419 : decode cX12_run 419 = .ok (.invokevirtual 1304, 3) := by decide +kernel
set_option maxRecDepth 100000 in
theorem dX12_run_422 : decode cX12_run 422 = .ok (.invokevirtual 1423, 3) := by decide +kernel
set_option maxRecDepth 100000 in
theorem dX12_run_425 : decode cX12_run 425 = .ok (.aload_n 0, 1) := by decide +kernel
set_option maxRecDepth 100000 in
theorem dX12_run_426 : decode cX12_run 426 = .ok (.aload_n 0, 1) := by decide +kernel
set_option maxRecDepth 100000 in
theorem dX12_run_427 : decode cX12_run 427 = .ok (.aload_n 0, 1) := by decide +kernel
set_option maxRecDepth 100000 in
theorem dX12_run_428 : decode cX12_run 428 = .ok (.getfield 737, 3) := by decide +kernel
set_option maxRecDepth 100000 in
theorem dX12_run_431 : decode cX12_run 431 = .ok (.iconst 5, 1) := by decide +kernel
set_option maxRecDepth 100000 in
theorem dX12_run_432 : decode cX12_run 432 = .ok (.invokevirtual 734, 3) := by decide +kernel
set_option maxRecDepth 100000 in
theorem dX12_run_435 : decode cX12_run 435 = .ok (.invokevirtual 1370, 3) := by decide +kernel
set_option maxRecDepth 100000 in
theorem dX12_run_438 : decode cX12_run 438 = .ok (.aload_n 0, 1) := by decide +kernel
set_option maxRecDepth 100000 in
theorem dX12_run_439 : decode cX12_run 439 = .ok (.getfield 1124, 3) := by decide +kernel
set_option maxRecDepth 100000 in
theorem dX12_run_442 : decode cX12_run 442 = .ok (.ireturn, 1) := by decide +kernel
def lX12_run_96 (G : xG) (fr lo : Nat) (x0 : Nat) (x2 : Int32) (h : xH) (Q : Outcome → xH → Prop) : Prop := xP G YX12_run fr lo 96 [(0, rv x0), (2, .int x2)] [] h Q
def lX12_run_235 (G : xG) (fr lo : Nat) (x0 : Nat) (x2 : Int32) (h : xH) (Q : Outcome → xH → Prop) : Prop := xP G YX12_run fr lo 235 [(0, rv x0), (2, .int x2)] [] h Q
def lX12_run_298 (G : xG) (fr lo : Nat) (x0 : Nat) (x2 : Int32) (h : xH) (Q : Outcome → xH → Prop) : Prop := xP G YX12_run fr lo 298 [(0, rv x0), (2, .int x2)] [] h Q
def lX12_run_342 (G : xG) (fr lo : Nat) (x0 : Nat) (x2 : Int32) (x3 : Int32) (x4 : Int32) (h : xH) (Q : Outcome → xH → Prop) : Prop := xP G YX12_run fr lo 342 [(0, rv x0), (2, .int x2), (3, .int x3), (4, .int x4)] [] h Q
set_option maxRecDepth 100000 in
def bX12_run_425 (G : xG) (fr lo : Nat) (x0 : Nat) (h : xH) (Q : Outcome → xH → Prop) : Prop := tg h x0 = 13 ∧ 1 ≤ fr ∧ 17 ≤ lo ∧ xRi G YX12_child (fr - 1) (lo - 17) [rv x0, .int (fI h x0 3135), .int 5] h (fun x5 h4 => xext h h4 → 1 ≤ fr ∧ 26 ≤ lo ∧ xRv G YX12_execute (fr - 1) (lo - 26) [rv x0, .int x5] h4 (fun h10 => xext h4 h10 → Q (.returned (some (.int (fI h10 x0 3171)))) h10) (fun r h2 => Q (.threw r) h2)) (fun r h2 => Q (.threw r) h2)
set_option maxRecDepth 100000 in
theorem uX12_run_425 {G : xG} {fr lo : Nat} {x0 : Nat} {h : xH} {Q : Outcome → xH → Prop} (hq : bX12_run_425 G fr lo x0 h Q) : xP G YX12_run fr lo 425 [(0, rv x0)] [] h Q := by
  unfold bX12_run_425 at hq
  refine x_aload_n 0 dX12_run_425 rfl ?_
  refine x_aload_n 0 dX12_run_426 rfl ?_
  refine x_aload_n 0 dX12_run_427 rfl ?_
  obtain ⟨g1, hq⟩ := hq
  refine x_get (v := .int (fI h x0 3135)) fdX12_737 dX12_run_428 g1 rfl ?_
  refine x_iconst (v := 5) dX12_run_431 (by decide) ?_
  obtain ⟨g2, g3, hq⟩ := hq
  refine x_callV (Yc := YX12_child) (as := [.int (fI h x0 3135), .int 5]) (st := [rv x0]) q4126 mvX12_child g1 rfl dX12_run_432 (xle (xal1 (rv_cat _) (xal1 rfl (xal1 rfl xal0))) (by decide)) (xfr g2) (xlo (xsw1 (rv_cat _) xsw0) (by decide) g3) (xKi hq (fun x5 h4 hq e6 => ?_) (fun _ _ q _ => q))
  replace hq := hq e6
  have t7 : tg h4 x0 = 13 := e6.tg g1 (by decide)
  obtain ⟨g8, g9, hq⟩ := hq
  refine x_callV (Yc := YX12_execute) (as := [.int x5]) (st := []) q4539 mvX12_execute t7 rfl dX12_run_435 (xle (xal1 (rv_cat _) (xal1 rfl xal0)) (by decide)) (xfr g8) (xlo xsw0 (by decide) g9) (xKv hq (fun h10 hq e12 => ?_) (fun _ _ q _ => q))
  replace hq := hq e12
  refine x_aload_n 0 dX12_run_438 rfl ?_
  have t13 : tg h10 x0 = 13 := e12.tg t7 (by decide)
  refine x_get (v := .int (fI h10 x0 3171)) fdX12_1124 dX12_run_439 t13 rfl ?_
  exact x_iret rfl rfl dX12_run_442 hq
set_option maxRecDepth 100000 in
def bX12_run_406 (G : xG) (fr lo : Nat) (x0 : Nat) (h : xH) (Q : Outcome → xH → Prop) : Prop := tg h x0 = 13 ∧ (((fR h x0 3130) = 0 → bX12_run_425 G fr lo x0 h Q) ∧ (¬ (fR h x0 3130) = 0 → 1 ≤ fr ∧ 14 ≤ lo ∧ xRi G YX12_fileOfRun (fr - 1) (lo - 14) [rv x0, rv (fR h x0 3130)] h (fun x6 h5 => xext h h5 → 1 ≤ fr ∧ 13 ≤ lo ∧ xRv G YX12_rewrite (fr - 1) (lo - 13) [rv x0, .int x6] h5 (fun h11 => xext h5 h11 → bX12_run_425 G fr lo x0 h11 Q) (fun r h2 => Q (.threw r) h2)) (fun r h2 => Q (.threw r) h2)))
set_option maxRecDepth 100000 in
theorem uX12_run_406 {G : xG} {fr lo : Nat} {x0 : Nat} {h : xH} {Q : Outcome → xH → Prop} (hq : bX12_run_406 G fr lo x0 h Q) : xP G YX12_run fr lo 406 [(0, rv x0)] [] h Q := by
  unfold bX12_run_406 at hq
  refine x_aload_n 0 dX12_run_406 rfl ?_
  obtain ⟨g1, hq⟩ := hq
  refine x_get (v := rv (fR h x0 3130)) fdX12_731 dX12_run_407 g1 rfl ?_
  refine x_ifnull (tgt := 425) dX12_run_410 (by decide) (fun c2 => ?_) (fun c2 => ?_)
  · replace hq := hq.1 c2
    exact uX12_run_425 hq
  · replace hq := hq.2 c2
    refine x_aload_n 0 dX12_run_413 rfl ?_
    refine x_aload_n 0 dX12_run_414 rfl ?_
    refine x_aload_n 0 dX12_run_415 rfl ?_
    refine x_get (v := rv (fR h x0 3130)) fdX12_731 dX12_run_416 g1 rfl ?_
    obtain ⟨g3, g4, hq⟩ := hq
    refine x_callV (Yc := YX12_fileOfRun) (as := [rv (fR h x0 3130)]) (st := [rv x0]) q4502 mvX12_fileOfRun g1 rfl dX12_run_419 (xle (xal1 (rv_cat _) (xal1 (rv_cat _) xal0)) (by decide)) (xfr g3) (xlo (xsw1 (rv_cat _) xsw0) (by decide) g4) (xKi hq (fun x6 h5 hq e7 => ?_) (fun _ _ q _ => q))
    replace hq := hq e7
    have t8 : tg h5 x0 = 13 := e7.tg g1 (by decide)
    obtain ⟨g9, g10, hq⟩ := hq
    refine x_callV (Yc := YX12_rewrite) (as := [.int x6]) (st := []) q4531 mvX12_rewrite t8 rfl dX12_run_422 (xle (xal1 (rv_cat _) (xal1 rfl xal0)) (by decide)) (xfr g9) (xlo xsw0 (by decide) g10) (xKv hq (fun h11 hq e13 => ?_) (fun _ _ q _ => q))
    replace hq := hq e13
    exact uX12_run_425 hq
set_option maxRecDepth 100000 in
def bX12_run_342 (G : xG) (fr lo : Nat) (x0 : Nat) (x2 : Int32) (x3 : Int32) (x4 : Int32) (h : xH) (Q : Outcome → xH → Prop) : Prop := tg h x0 = 13 ∧ tg h (fR h x0 3078) = 100 ∧ vp_in x2 (ln h (fR h x0 3078)) ∧ (((aI h (fR h x0 3078) (Int32.toNatClampNeg x2)) ≤ x4 → lX12_run_298 G fr lo x0 (x2 + 1) h Q) ∧ (¬ (aI h (fR h x0 3078) (Int32.toNatClampNeg x2)) ≤ x4 → tg h (fR h x0 3077) = 103 ∧ vp_in ((3000 * x2) + x4) (ln h (fR h x0 3077)) ∧ 1 ≤ fr ∧ 15 ≤ lo ∧ xRv G YX12_linkByte (fr - 1) (lo - 15) [rv x0, .int x3, .int (aI h (fR h x0 3077) (Int32.toNatClampNeg ((3000 * x2) + x4)))] h (fun h9 => xext h h9 → lX12_run_342 G fr lo x0 x2 x3 (x4 + 1) h9 Q) (fun r h2 => Q (.threw r) h2)))
set_option maxRecDepth 100000 in
theorem uX12_run_342 {G : xG} {fr lo : Nat} {x0 : Nat} {x2 : Int32} {x3 : Int32} {x4 : Int32} {h : xH} {Q : Outcome → xH → Prop} (hq : bX12_run_342 G fr lo x0 x2 x3 x4 h Q) : xP G YX12_run fr lo 342 [(0, rv x0), (2, .int x2), (3, .int x3), (4, .int x4)] [] h Q := by
  unfold bX12_run_342 at hq
  refine x_iload 3 dX12_run_342 rfl ?_
  refine x_aload_n 0 dX12_run_344 rfl ?_
  obtain ⟨g1, hq⟩ := hq
  refine x_get (v := rv (fR h x0 3078)) fdX12_19 dX12_run_345 g1 rfl ?_
  refine x_iload_n 1 dX12_run_348 rfl ?_
  obtain ⟨g2, hq⟩ := hq
  obtain ⟨i3, hq⟩ := hq
  refine x_iald 0 (Or.inl rfl) g2 i3 dX12_run_349 ?_
  refine x_icmp_ge (tgt := 377) dX12_run_350 (by decide) (fun c4 => ?_) (fun c4 => ?_)
  · replace hq := hq.1 c4
    refine x_iinc (lv' := [(2, .int (x2 + 1)), (0, rv x0), (3, .int x3), (4, .int x4)]) 1 dX12_run_377 rfl (by decide) rfl ?_
    refine x_goto (tgt := 298) dX12_run_380 (by decide) ?_
    refine xP.pick (lv' := [(0, rv x0), (2, .int (x2 + 1))]) [1, 0] rfl ?_
    exact hq
  · replace hq := hq.2 c4
    refine x_aload_n 0 dX12_run_353 rfl ?_
    refine x_iload_n 2 dX12_run_354 rfl ?_
    refine x_aload_n 0 dX12_run_355 rfl ?_
    refine x_get (v := rv (fR h x0 3077)) fdX12_16 dX12_run_356 g1 rfl ?_
    refine x_sipush (v := 3000) dX12_run_359 (by decide) ?_
    refine x_iload_n 1 dX12_run_362 rfl ?_
    refine x_imul dX12_run_363 ?_
    refine x_iload 3 dX12_run_364 rfl ?_
    refine x_iadd dX12_run_366 ?_
    obtain ⟨g5, hq⟩ := hq
    obtain ⟨i6, hq⟩ := hq
    refine x_bald g5 i6 dX12_run_367 ?_
    obtain ⟨g7, g8, hq⟩ := hq
    refine x_callV (Yc := YX12_linkByte) (as := [.int x3, .int (aI h (fR h x0 3077) (Int32.toNatClampNeg ((3000 * x2) + x4)))]) (st := []) q4514 mvX12_linkByte g1 rfl dX12_run_368 (xle (xal1 (rv_cat _) (xal1 rfl (xal1 rfl xal0))) (by decide)) (xfr g7) (xlo xsw0 (by decide) g8) (xKv hq (fun h9 hq e11 => ?_) (fun _ _ q _ => q))
    replace hq := hq e11
    refine x_iinc (lv' := [(4, .int (x4 + 1)), (0, rv x0), (2, .int x2), (3, .int x3)]) 3 dX12_run_371 rfl (by decide) rfl ?_
    refine x_goto (tgt := 342) dX12_run_374 (by decide) ?_
    refine xP.pick (lv' := [(0, rv x0), (2, .int x2), (3, .int x3), (4, .int (x4 + 1))]) [1, 2, 3, 0] rfl ?_
    exact hq
set_option maxRecDepth 100000 in
def bX12_run_298 (G : xG) (fr lo : Nat) (x0 : Nat) (x2 : Int32) (h : xH) (Q : Outcome → xH → Prop) : Prop := tg h x0 = 13 ∧ tg h (fR h x0 3128) = 29 ∧ 1 ≤ fr ∧ 13 ≤ lo ∧ xRi G YJ2_size (fr - 1) (lo - 13) [rv (fR h x0 3128)] h (fun x6 h5 => xext h h5 → ((x6 ≤ x2 → (((fR h5 x0 3129) = 0 → bX12_run_406 G fr lo x0 h5 Q) ∧ (¬ (fR h5 x0 3129) = 0 → 1 ≤ fr ∧ 14 ≤ lo ∧ xRi G YX12_fileOfRun (fr - 1) (lo - 14) [rv x0, rv (fR h5 x0 3129)] h5 (fun x14 h13 => xext h5 h13 → 1 ≤ fr ∧ 14 ≤ lo ∧ xRv G YX12_reset (fr - 1) (lo - 14) [rv x0, .int x14, .int (fI h13 x0 3144)] h13 (fun h19 => xext h13 h19 → bX12_run_406 G fr lo x0 h19 Q) (fun r h2 => Q (.threw r) h2)) (fun r h2 => Q (.threw r) h2)))) ∧ (¬ x6 ≤ x2 → tg h5 (fR h5 x0 3128) = 29 ∧ 1 ≤ fr ∧ 14 ≤ lo ∧ xRr G YJ2_get (fr - 1) (lo - 14) [rv (fR h5 x0 3128), .int x2] h5 (fun x27 h26 => xext h5 h26 → tg h26 x27 = 24 ∧ 1 ≤ fr ∧ 13 ≤ lo ∧ xRi G YX12_fileOfRun (fr - 1) (lo - 13) [rv x0, rv x27] h26 (fun x34 h33 => xext h26 h33 → tg h33 (fR h33 x0 3202) = 100 ∧ vp_in x2 (ln h33 (fR h33 x0 3202)) ∧ (∀ h39 : xH, h39 = tI h33 (fR h33 x0 3202) (Int32.toNatClampNeg x2) x34 → tg h39 (fR h39 x0 3188) = 104 ∧ vp_in x34 (ln h39 (fR h39 x0 3188)) ∧ (∀ h44 : xH, h44 = tI h39 (fR h39 x0 3188) (Int32.toNatClampNeg x34) (vp_nar .boolean 1) → lX12_run_342 G fr lo x0 x2 x34 0 h44 Q))) (fun r h2 => Q (.threw r) h2)) (fun r h2 => Q (.threw r) h2)))) (fun r h2 => Q (.threw r) h2)
set_option maxRecDepth 100000 in
theorem uX12_run_298 {G : xG} {fr lo : Nat} {x0 : Nat} {x2 : Int32} {h : xH} {Q : Outcome → xH → Prop} (hq : bX12_run_298 G fr lo x0 x2 h Q) : xP G YX12_run fr lo 298 [(0, rv x0), (2, .int x2)] [] h Q := by
  unfold bX12_run_298 at hq
  refine x_iload_n 1 dX12_run_298 rfl ?_
  refine x_aload_n 0 dX12_run_299 rfl ?_
  obtain ⟨g1, hq⟩ := hq
  refine x_get (v := rv (fR h x0 3128)) fdX12_147 dX12_run_300 g1 rfl ?_
  obtain ⟨g2, hq⟩ := hq
  obtain ⟨g3, g4, hq⟩ := hq
  refine x_callV (Yc := YJ2_size) (as := []) (st := [.int x2]) q4067 mvJ2_size g2 rfl dX12_run_303 (xle (xal1 (rv_cat _) xal0) (by decide)) (xfr g3) (xlo (xsw1 rfl xsw0) (by decide) g4) (xKi hq (fun x6 h5 hq e7 => ?_) (fun _ _ q _ => q))
  replace hq := hq e7
  refine x_icmp_ge (tgt := 383) dX12_run_306 (by decide) (fun c8 => ?_) (fun c8 => ?_)
  · replace hq := hq.1 c8
    refine x_aload_n 0 dX12_run_383 rfl ?_
    have t9 : tg h5 x0 = 13 := e7.tg g1 (by decide)
    refine x_get (v := rv (fR h5 x0 3129)) fdX12_727 dX12_run_384 t9 rfl ?_
    refine x_ifnull (tgt := 406) dX12_run_387 (by decide) (fun c10 => ?_) (fun c10 => ?_)
    · replace hq := hq.1 c10
      refine xP.pick (lv' := [(0, rv x0)]) [0] rfl ?_
      exact uX12_run_406 hq
    · replace hq := hq.2 c10
      refine x_aload_n 0 dX12_run_390 rfl ?_
      refine x_aload_n 0 dX12_run_391 rfl ?_
      refine x_aload_n 0 dX12_run_392 rfl ?_
      refine x_get (v := rv (fR h5 x0 3129)) fdX12_727 dX12_run_393 t9 rfl ?_
      obtain ⟨g11, g12, hq⟩ := hq
      refine x_callV (Yc := YX12_fileOfRun) (as := [rv (fR h5 x0 3129)]) (st := [rv x0]) q4502 mvX12_fileOfRun t9 rfl dX12_run_396 (xle (xal1 (rv_cat _) (xal1 (rv_cat _) xal0)) (by decide)) (xfr g11) (xlo (xsw1 (rv_cat _) xsw0) (by decide) g12) (xKi hq (fun x14 h13 hq e15 => ?_) (fun _ _ q _ => q))
      replace hq := hq e15
      refine x_aload_n 0 dX12_run_399 rfl ?_
      have t16 : tg h13 x0 = 13 := e15.tg t9 (by decide)
      refine x_get (v := .int (fI h13 x0 3144)) fdX12_1107 dX12_run_400 t16 rfl ?_
      obtain ⟨g17, g18, hq⟩ := hq
      refine x_callV (Yc := YX12_reset) (as := [.int x14, .int (fI h13 x0 3144)]) (st := []) q4522 mvX12_reset t16 rfl dX12_run_403 (xle (xal1 (rv_cat _) (xal1 rfl (xal1 rfl xal0))) (by decide)) (xfr g17) (xlo xsw0 (by decide) g18) (xKv hq (fun h19 hq e21 => ?_) (fun _ _ q _ => q))
      replace hq := hq e21
      refine xP.pick (lv' := [(0, rv x0)]) [0] rfl ?_
      exact uX12_run_406 hq
  · replace hq := hq.2 c8
    refine x_aload_n 0 dX12_run_309 rfl ?_
    refine x_aload_n 0 dX12_run_310 rfl ?_
    have t22 : tg h5 x0 = 13 := e7.tg g1 (by decide)
    refine x_get (v := rv (fR h5 x0 3128)) fdX12_147 dX12_run_311 t22 rfl ?_
    refine x_iload_n 1 dX12_run_314 rfl ?_
    obtain ⟨g23, hq⟩ := hq
    obtain ⟨g24, g25, hq⟩ := hq
    refine x_callV (Yc := YJ2_get) (as := [.int x2]) (st := [rv x0]) q4109 mvJ2_get g23 rfl dX12_run_315 (xle (xal1 (rv_cat _) (xal1 rfl xal0)) (by decide)) (xfr g24) (xlo (xsw1 (rv_cat _) xsw0) (by decide) g25) (xKr hq (fun x27 h26 hq e28 => ?_) (fun _ _ q _ => q))
    replace hq := hq e28
    obtain ⟨g29, hq⟩ := hq
    refine x_cast (ci := 23) (by decide) rfl q3206 g29 dX12_run_318 ?_
    have t30 : tg h26 x0 = 13 := e28.tg t22 (by decide)
    obtain ⟨g31, g32, hq⟩ := hq
    refine x_callV (Yc := YX12_fileOfRun) (as := [rv x27]) (st := []) q4502 mvX12_fileOfRun t30 rfl dX12_run_321 (xle (xal1 (rv_cat _) (xal1 (rv_cat _) xal0)) (by decide)) (xfr g31) (xlo xsw0 (by decide) g32) (xKi hq (fun x34 h33 hq e35 => ?_) (fun _ _ q _ => q))
    replace hq := hq e35
    refine x_istore_n (lv' := [(3, .int x34), (0, rv x0), (2, .int x2)]) dX12_run_324 (by decide) rfl ?_
    refine x_aload_n 1 dX12_run_325 rfl ?_
    have t36 : tg h33 x0 = 13 := e35.tg t30 (by decide)
    refine x_get (v := rv (fR h33 x0 3202)) fdX12_247 dX12_run_326 t36 rfl ?_
    refine x_iload_n 2 dX12_run_329 rfl ?_
    refine x_iload_n 0 dX12_run_330 rfl ?_
    obtain ⟨g37, hq⟩ := hq
    obtain ⟨i38, hq⟩ := hq
    obtain ⟨h39, e40⟩ : ∃ y, y = tI h33 (fR h33 x0 3202) (Int32.toNatClampNeg x2) x34 := ⟨_, rfl⟩
    replace hq := hq h39 e40
    refine x_iast' g37 i38 dX12_run_331 e40 ?_
    refine x_aload_n 1 dX12_run_332 rfl ?_
    have t41 : tg h39 x0 = 13 := by rw [e40]; exact t36
    refine x_get (v := rv (fR h39 x0 3188)) fdX12_222 dX12_run_333 t41 rfl ?_
    refine x_iload_n 0 dX12_run_336 rfl ?_
    refine x_iconst (v := 1) dX12_run_337 (by decide) ?_
    obtain ⟨g42, hq⟩ := hq
    obtain ⟨i43, hq⟩ := hq
    obtain ⟨h44, e45⟩ : ∃ y, y = tI h39 (fR h39 x0 3188) (Int32.toNatClampNeg x34) (vp_nar .boolean 1) := ⟨_, rfl⟩
    replace hq := hq h44 e45
    refine x_zast' g42 i43 dX12_run_338 e45 ?_
    refine x_iconst (v := 0) dX12_run_339 (by decide) ?_
    refine x_istore (lv' := [(4, .int 0), (3, .int x34), (0, rv x0), (2, .int x2)]) dX12_run_340 (by decide) rfl ?_
    refine xP.pick (lv' := [(0, rv x0), (2, .int x2), (3, .int x34), (4, .int 0)]) [2, 3, 1, 0] rfl ?_
    exact hq
set_option maxRecDepth 100000 in
def bX12_run_290 (G : xG) (fr lo : Nat) (x0 : Nat) (x2 : Int32) (h : xH) (Q : Outcome → xH → Prop) : Prop := lX12_run_235 G fr lo x0 (x2 + 1) h Q
set_option maxRecDepth 100000 in
theorem uX12_run_290 {G : xG} {fr lo : Nat} {x0 : Nat} {x2 : Int32} {h : xH} {Q : Outcome → xH → Prop} (hq : bX12_run_290 G fr lo x0 x2 h Q) : xP G YX12_run fr lo 290 [(0, rv x0), (2, .int x2)] [] h Q := by
  unfold bX12_run_290 at hq
  refine x_iinc (lv' := [(2, .int (x2 + 1)), (0, rv x0)]) 1 dX12_run_290 rfl (by decide) rfl ?_
  refine x_goto (tgt := 235) dX12_run_293 (by decide) ?_
  refine xP.pick (lv' := [(0, rv x0), (2, .int (x2 + 1))]) [1, 0] rfl ?_
  exact hq
set_option maxRecDepth 100000 in
def bX12_run_235 (G : xG) (fr lo : Nat) (x0 : Nat) (x2 : Int32) (h : xH) (Q : Outcome → xH → Prop) : Prop := tg h x0 = 13 ∧ tg h (fR h x0 3137) = 29 ∧ 1 ≤ fr ∧ 13 ≤ lo ∧ xRi G YJ2_size (fr - 1) (lo - 13) [rv (fR h x0 3137)] h (fun x6 h5 => xext h h5 → ((x6 ≤ x2 → lX12_run_298 G fr lo x0 0 h5 Q) ∧ (¬ x6 ≤ x2 → tg h5 (fR h5 x0 3137) = 29 ∧ 1 ≤ fr ∧ 13 ≤ lo ∧ xRr G YJ2_get (fr - 1) (lo - 13) [rv (fR h5 x0 3137), .int x2] h5 (fun x14 h13 => xext h5 h13 → tg h13 x14 = 24 ∧ ((¬ (fI h13 x14 5888) = 3 → bX12_run_290 G fr lo x0 x2 h13 Q) ∧ ((fI h13 x14 5888) = 3 → tg h13 (fR h13 x14 5890) = 14 ∧ ((¬ (fI h13 (fR h13 x14 5890) 3328) = 10 → bX12_run_290 G fr lo x0 x2 h13 Q) ∧ ((fI h13 (fR h13 x14 5890) 3328) = 10 → 1 ≤ fr ∧ 14 ≤ lo ∧ xRv G YX12_newFile (fr - 1) (lo - 14) [rv x0, .int (fI h13 x14 5894), rv (fR h13 x14 5890)] h13 (fun h23 => xext h13 h23 → bX12_run_290 G fr lo x0 x2 h23 Q) (fun r h2 => Q (.threw r) h2)))))) (fun r h2 => Q (.threw r) h2)))) (fun r h2 => Q (.threw r) h2)
set_option maxRecDepth 100000 in
theorem uX12_run_235 {G : xG} {fr lo : Nat} {x0 : Nat} {x2 : Int32} {h : xH} {Q : Outcome → xH → Prop} (hq : bX12_run_235 G fr lo x0 x2 h Q) : xP G YX12_run fr lo 235 [(0, rv x0), (2, .int x2)] [] h Q := by
  unfold bX12_run_235 at hq
  refine x_iload_n 1 dX12_run_235 rfl ?_
  refine x_aload_n 0 dX12_run_236 rfl ?_
  obtain ⟨g1, hq⟩ := hq
  refine x_get (v := rv (fR h x0 3137)) fdX12_717 dX12_run_237 g1 rfl ?_
  obtain ⟨g2, hq⟩ := hq
  obtain ⟨g3, g4, hq⟩ := hq
  refine x_callV (Yc := YJ2_size) (as := []) (st := [.int x2]) q4067 mvJ2_size g2 rfl dX12_run_240 (xle (xal1 (rv_cat _) xal0) (by decide)) (xfr g3) (xlo (xsw1 rfl xsw0) (by decide) g4) (xKi hq (fun x6 h5 hq e7 => ?_) (fun _ _ q _ => q))
  replace hq := hq e7
  refine x_icmp_ge (tgt := 296) dX12_run_243 (by decide) (fun c8 => ?_) (fun c8 => ?_)
  · replace hq := hq.1 c8
    refine x_iconst (v := 0) dX12_run_296 (by decide) ?_
    refine x_istore_n (lv' := [(2, .int 0), (0, rv x0)]) dX12_run_297 (by decide) rfl ?_
    refine xP.pick (lv' := [(0, rv x0), (2, .int 0)]) [1, 0] rfl ?_
    exact hq
  · replace hq := hq.2 c8
    refine x_aload_n 0 dX12_run_246 rfl ?_
    have t9 : tg h5 x0 = 13 := e7.tg g1 (by decide)
    refine x_get (v := rv (fR h5 x0 3137)) fdX12_717 dX12_run_247 t9 rfl ?_
    refine x_iload_n 1 dX12_run_250 rfl ?_
    obtain ⟨g10, hq⟩ := hq
    obtain ⟨g11, g12, hq⟩ := hq
    refine x_callV (Yc := YJ2_get) (as := [.int x2]) (st := []) q4109 mvJ2_get g10 rfl dX12_run_251 (xle (xal1 (rv_cat _) (xal1 rfl xal0)) (by decide)) (xfr g11) (xlo xsw0 (by decide) g12) (xKr hq (fun x14 h13 hq e15 => ?_) (fun _ _ q _ => q))
    replace hq := hq e15
    obtain ⟨g16, hq⟩ := hq
    refine x_cast (ci := 23) (by decide) rfl q3206 g16 dX12_run_254 ?_
    refine x_astore_n (lv' := [(3, rv x14), (0, rv x0), (2, .int x2)]) dX12_run_257 (by decide) rfl ?_
    refine x_aload_n 0 dX12_run_258 rfl ?_
    refine x_get (v := .int (fI h13 x14 5888)) fdX12_577 dX12_run_259 g16 rfl ?_
    refine x_iconst (v := 3) dX12_run_262 (by decide) ?_
    refine x_icmp_ne (tgt := 290) dX12_run_263 (by decide) (fun c17 => ?_) (fun c17 => ?_)
    · replace hq := hq.1 c17
      refine xP.pick (lv' := [(0, rv x0), (2, .int x2)]) [1, 2] rfl ?_
      exact uX12_run_290 hq
    · replace hq := hq.2 c17
      refine x_aload_n 0 dX12_run_266 rfl ?_
      refine x_get (v := rv (fR h13 x14 5890)) fdX12_612 dX12_run_267 g16 rfl ?_
      obtain ⟨g18, hq⟩ := hq
      refine x_get (v := .int (fI h13 (fR h13 x14 5890) 3328)) fdX12_845 dX12_run_270 g18 rfl ?_
      refine x_bipush (v := 10) dX12_run_273 (by decide) ?_
      refine x_icmp_ne (tgt := 290) dX12_run_275 (by decide) (fun c19 => ?_) (fun c19 => ?_)
      · replace hq := hq.1 c19
        refine xP.pick (lv' := [(0, rv x0), (2, .int x2)]) [1, 2] rfl ?_
        exact uX12_run_290 hq
      · replace hq := hq.2 c19
        refine x_aload_n 1 dX12_run_278 rfl ?_
        refine x_aload_n 0 dX12_run_279 rfl ?_
        refine x_get (v := .int (fI h13 x14 5894)) fdX12_713 dX12_run_280 g16 rfl ?_
        refine x_aload_n 0 dX12_run_283 rfl ?_
        refine x_get (v := rv (fR h13 x14 5890)) fdX12_612 dX12_run_284 g16 rfl ?_
        have t20 : tg h13 x0 = 13 := e15.tg t9 (by decide)
        obtain ⟨g21, g22, hq⟩ := hq
        refine x_callV (Yc := YX12_newFile) (as := [.int (fI h13 x14 5894), rv (fR h13 x14 5890)]) (st := []) q4498 mvX12_newFile t20 rfl dX12_run_287 (xle (xal1 (rv_cat _) (xal1 rfl (xal1 (rv_cat _) xal0))) (by decide)) (xfr g21) (xlo xsw0 (by decide) g22) (xKv hq (fun h23 hq e25 => ?_) (fun _ _ q _ => q))
        replace hq := hq e25
        refine xP.pick (lv' := [(0, rv x0), (2, .int x2)]) [1, 2] rfl ?_
        exact uX12_run_290 hq
set_option maxRecDepth 100000 in
def bX12_run_183 (G : xG) (fr lo : Nat) (x0 : Nat) (s0 : Int32) (s1 : Nat) (h : xH) (Q : Outcome → xH → Prop) : Prop := tg h s1 = 13 ∧ xbz s0 ∧ (∀ h3 : xH, h3 = sI h s1 3201 s0 → tg h3 x0 = 13 ∧ ((¬ (fI h3 x0 3201) = 0 → 1 ≤ fr ∧ 15 ≤ lo ∧ xRv G YX12_blank (fr - 1) (lo - 15) [rv x0, .int 0, .int (fI h3 x0 3136)] h3 (fun h9 => xext h3 h9 → (∀ h13 : xH, h13 = sI h9 x0 3151 (fI h9 x0 3136) → (∀ h16 : xH, h16 = sI h13 x0 3152 (fI h13 x0 3136) → lX12_run_235 G fr lo x0 0 h16 Q))) (fun r h2 => Q (.threw r) h2)) ∧ ((fI h3 x0 3201) = 0 → 1 ≤ fr ∧ 14 ≤ lo ∧ xRv G YX12_error (fr - 1) (lo - 14) [rv x0, .int 14, .int (fI h3 x0 3144)] h3 (fun h20 => xext h3 h20 → Q (.returned (some (.int (fI h20 x0 3171)))) h20) (fun r h2 => Q (.threw r) h2))))
set_option maxRecDepth 100000 in
theorem uX12_run_183 {G : xG} {fr lo : Nat} {x0 : Nat} {s0 : Int32} {s1 : Nat} {h : xH} {Q : Outcome → xH → Prop} (hq : bX12_run_183 G fr lo x0 s0 s1 h Q) : xP G YX12_run fr lo 183 [(0, rv x0)] [.int s0, rv s1] h Q := by
  unfold bX12_run_183 at hq
  obtain ⟨g1, hq⟩ := hq
  obtain ⟨g2, hq⟩ := hq
  obtain ⟨h3, e4⟩ : ∃ y, y = sI h s1 3201 s0 := ⟨_, rfl⟩
  replace hq := hq h3 e4
  refine x_putI fdX12_1497 xty_Z1 dX12_run_183 g1 (Or.inl (by rw [g1]; rfl)) (xnB g2) rfl e4 ?_
  refine x_aload_n 0 dX12_run_186 rfl ?_
  obtain ⟨g5, hq⟩ := hq
  refine x_get (v := .int (fI h3 x0 3201)) fdX12_1497 dX12_run_187 g5 rfl ?_
  refine x_if_ne (tgt := 208) dX12_run_190 (by decide) (fun c6 => ?_) (fun c6 => ?_)
  · replace hq := hq.1 c6
    refine x_aload_n 0 dX12_run_208 rfl ?_
    refine x_iconst (v := 0) dX12_run_209 (by decide) ?_
    refine x_aload_n 0 dX12_run_210 rfl ?_
    refine x_get (v := .int (fI h3 x0 3136)) fdX12_743 dX12_run_211 g5 rfl ?_
    obtain ⟨g7, g8, hq⟩ := hq
    refine x_callV (Yc := YX12_blank) (as := [.int 0, .int (fI h3 x0 3136)]) (st := []) q4494 mvX12_blank g5 rfl dX12_run_214 (xle (xal1 (rv_cat _) (xal1 rfl (xal1 rfl xal0))) (by decide)) (xfr g7) (xlo xsw0 (by decide) g8) (xKv hq (fun h9 hq e11 => ?_) (fun _ _ q _ => q))
    replace hq := hq e11
    refine x_aload_n 0 dX12_run_217 rfl ?_
    refine x_aload_n 0 dX12_run_218 rfl ?_
    have t12 : tg h9 x0 = 13 := e11.tg g5 (by decide)
    refine x_get (v := .int (fI h9 x0 3136)) fdX12_743 dX12_run_219 t12 rfl ?_
    obtain ⟨h13, e14⟩ : ∃ y, y = sI h9 x0 3151 (fI h9 x0 3136) := ⟨_, rfl⟩
    replace hq := hq h13 e14
    refine x_putI fdX12_1360 xty_I1 dX12_run_222 t12 (Or.inl (by rw [t12]; rfl)) xnI rfl e14 ?_
    refine x_aload_n 0 dX12_run_225 rfl ?_
    refine x_aload_n 0 dX12_run_226 rfl ?_
    have t15 : tg h13 x0 = 13 := by rw [e14]; exact t12
    refine x_get (v := .int (fI h13 x0 3136)) fdX12_743 dX12_run_227 t15 rfl ?_
    obtain ⟨h16, e17⟩ : ∃ y, y = sI h13 x0 3152 (fI h13 x0 3136) := ⟨_, rfl⟩
    replace hq := hq h16 e17
    refine x_putI fdX12_1382 xty_I1 dX12_run_230 t15 (Or.inl (by rw [t15]; rfl)) xnI rfl e17 ?_
    refine x_iconst (v := 0) dX12_run_233 (by decide) ?_
    refine x_istore_n (lv' := [(2, .int 0), (0, rv x0)]) dX12_run_234 (by decide) rfl ?_
    refine xP.pick (lv' := [(0, rv x0), (2, .int 0)]) [1, 0] rfl ?_
    exact hq
  · replace hq := hq.2 c6
    refine x_aload_n 0 dX12_run_193 rfl ?_
    refine x_bipush (v := 14) dX12_run_194 (by decide) ?_
    refine x_aload_n 0 dX12_run_196 rfl ?_
    refine x_get (v := .int (fI h3 x0 3144)) fdX12_1107 dX12_run_197 g5 rfl ?_
    obtain ⟨g18, g19, hq⟩ := hq
    refine x_callV (Yc := YX12_error) (as := [.int 14, .int (fI h3 x0 3144)]) (st := []) q4490 mvX12_error g5 rfl dX12_run_200 (xle (xal1 (rv_cat _) (xal1 rfl (xal1 rfl xal0))) (by decide)) (xfr g18) (xlo xsw0 (by decide) g19) (xKv hq (fun h20 hq e22 => ?_) (fun _ _ q _ => q))
    replace hq := hq e22
    refine x_aload_n 0 dX12_run_203 rfl ?_
    have t23 : tg h20 x0 = 13 := e22.tg g5 (by decide)
    refine x_get (v := .int (fI h20 x0 3171)) fdX12_1124 dX12_run_204 t23 rfl ?_
    exact x_iret rfl rfl dX12_run_207 hq
set_option maxRecDepth 100000 in
def bX12_run_96 (G : xG) (fr lo : Nat) (x0 : Nat) (x2 : Int32) (h : xH) (Q : Outcome → xH → Prop) : Prop := ((45000 ≤ x2 → tg h x0 = 13 ∧ tg h (fR h x0 3196) = 100 ∧ vp_in 44999 (ln h (fR h x0 3196)) ∧ (∀ h5 : xH, h5 = tI h (fR h x0 3196) (Int32.toNatClampNeg 44999) (-1) → (∀ h8 : xH, h8 = sI h5 x0 3197 0 → (∀ h11 : xH, h11 = sI h8 x0 3163 0 → (∀ h14 : xH, h14 = sI h11 x0 3164 1 → (∀ h17 : xH, h17 = sI h14 x0 3165 0 → tg h17 (fR h17 x0 3158) = 100 ∧ vp_in 0 (ln h17 (fR h17 x0 3158)) ∧ (∀ h22 : xH, h22 = tI h17 (fR h17 x0 3158) (Int32.toNatClampNeg 0) 0 → tg h22 (fR h22 x0 3159) = 100 ∧ vp_in 0 (ln h22 (fR h22 x0 3159)) ∧ (∀ h27 : xH, h27 = tI h22 (fR h22 x0 3159) (Int32.toNatClampNeg 0) (-1) → tg h27 (fR h27 x0 3160) = 100 ∧ vp_in 0 (ln h27 (fR h27 x0 3160)) ∧ (∀ h32 : xH, h32 = tI h27 (fR h27 x0 3160) (Int32.toNatClampNeg 0) 0 → ((20000 < (fI h32 x0 3136) → bX12_run_183 G fr lo x0 0 x0 h32 Q) ∧ (¬ 20000 < (fI h32 x0 3136) → bX12_run_183 G fr lo x0 1 x0 h32 Q))))))))))) ∧ (¬ 45000 ≤ x2 → tg h x0 = 13 ∧ tg h (fR h x0 3196) = 100 ∧ vp_in x2 (ln h (fR h x0 3196)) ∧ (∀ h39 : xH, h39 = tI h (fR h x0 3196) (Int32.toNatClampNeg x2) (x2 + 1) → lX12_run_96 G fr lo x0 (x2 + 1) h39 Q)))
set_option maxRecDepth 100000 in
theorem uX12_run_96 {G : xG} {fr lo : Nat} {x0 : Nat} {x2 : Int32} {h : xH} {Q : Outcome → xH → Prop} (hq : bX12_run_96 G fr lo x0 x2 h Q) : xP G YX12_run fr lo 96 [(0, rv x0), (2, .int x2)] [] h Q := by
  unfold bX12_run_96 at hq
  refine x_iload_n 1 dX12_run_96 rfl ?_
  refine x_ldc (v := 45000) q3250 dX12_run_97 ?_
  refine x_icmp_ge (tgt := 117) dX12_run_99 (by decide) (fun c1 => ?_) (fun c1 => ?_)
  · replace hq := hq.1 c1
    refine x_aload_n 0 dX12_run_117 rfl ?_
    obtain ⟨g2, hq⟩ := hq
    refine x_get (v := rv (fR h x0 3196)) fdX12_241 dX12_run_118 g2 rfl ?_
    refine x_ldcw (v := 44999) q4489 dX12_run_121 ?_
    refine x_iconst (v := (-1)) dX12_run_124 (by decide) ?_
    obtain ⟨g3, hq⟩ := hq
    obtain ⟨i4, hq⟩ := hq
    obtain ⟨h5, e6⟩ : ∃ y, y = tI h (fR h x0 3196) (Int32.toNatClampNeg 44999) (-1) := ⟨_, rfl⟩
    replace hq := hq h5 e6
    refine x_iast' g3 i4 dX12_run_125 e6 ?_
    refine x_aload_n 0 dX12_run_126 rfl ?_
    refine x_iconst (v := 0) dX12_run_127 (by decide) ?_
    have t7 : tg h5 x0 = 13 := by rw [e6]; exact g2
    obtain ⟨h8, e9⟩ : ∃ y, y = sI h5 x0 3197 0 := ⟨_, rfl⟩
    replace hq := hq h8 e9
    refine x_putI fdX12_1183 xty_I1 dX12_run_128 t7 (Or.inl (by rw [t7]; rfl)) xnI rfl e9 ?_
    refine x_aload_n 0 dX12_run_131 rfl ?_
    refine x_iconst (v := 0) dX12_run_132 (by decide) ?_
    have t10 : tg h8 x0 = 13 := by rw [e9]; exact t7
    obtain ⟨h11, e12⟩ : ∃ y, y = sI h8 x0 3163 0 := ⟨_, rfl⟩
    replace hq := hq h11 e12
    refine x_putI fdX12_1130 xty_I1 dX12_run_133 t10 (Or.inl (by rw [t10]; rfl)) xnI rfl e12 ?_
    refine x_aload_n 0 dX12_run_136 rfl ?_
    refine x_iconst (v := 1) dX12_run_137 (by decide) ?_
    have t13 : tg h11 x0 = 13 := by rw [e12]; exact t10
    obtain ⟨h14, e15⟩ : ∃ y, y = sI h11 x0 3164 1 := ⟨_, rfl⟩
    replace hq := hq h14 e15
    refine x_putI fdX12_1357 xty_I1 dX12_run_138 t13 (Or.inl (by rw [t13]; rfl)) xnI rfl e15 ?_
    refine x_aload_n 0 dX12_run_141 rfl ?_
    refine x_iconst (v := 0) dX12_run_142 (by decide) ?_
    have t16 : tg h14 x0 = 13 := by rw [e15]; exact t13
    obtain ⟨h17, e18⟩ : ∃ y, y = sI h14 x0 3165 0 := ⟨_, rfl⟩
    replace hq := hq h17 e18
    refine x_putI fdX12_1376 xty_I1 dX12_run_143 t16 (Or.inl (by rw [t16]; rfl)) xnI rfl e18 ?_
    refine x_aload_n 0 dX12_run_146 rfl ?_
    have t19 : tg h17 x0 = 13 := by rw [e18]; exact t16
    refine x_get (v := rv (fR h17 x0 3158)) fdX12_179 dX12_run_147 t19 rfl ?_
    refine x_iconst (v := 0) dX12_run_150 (by decide) ?_
    refine x_iconst (v := 0) dX12_run_151 (by decide) ?_
    obtain ⟨g20, hq⟩ := hq
    obtain ⟨i21, hq⟩ := hq
    obtain ⟨h22, e23⟩ : ∃ y, y = tI h17 (fR h17 x0 3158) (Int32.toNatClampNeg 0) 0 := ⟨_, rfl⟩
    replace hq := hq h22 e23
    refine x_iast' g20 i21 dX12_run_152 e23 ?_
    refine x_aload_n 0 dX12_run_153 rfl ?_
    have t24 : tg h22 x0 = 13 := by rw [e23]; exact t19
    refine x_get (v := rv (fR h22 x0 3159)) fdX12_182 dX12_run_154 t24 rfl ?_
    refine x_iconst (v := 0) dX12_run_157 (by decide) ?_
    refine x_iconst (v := (-1)) dX12_run_158 (by decide) ?_
    obtain ⟨g25, hq⟩ := hq
    obtain ⟨i26, hq⟩ := hq
    obtain ⟨h27, e28⟩ : ∃ y, y = tI h22 (fR h22 x0 3159) (Int32.toNatClampNeg 0) (-1) := ⟨_, rfl⟩
    replace hq := hq h27 e28
    refine x_iast' g25 i26 dX12_run_159 e28 ?_
    refine x_aload_n 0 dX12_run_160 rfl ?_
    have t29 : tg h27 x0 = 13 := by rw [e28]; exact t24
    refine x_get (v := rv (fR h27 x0 3160)) fdX12_185 dX12_run_161 t29 rfl ?_
    refine x_iconst (v := 0) dX12_run_164 (by decide) ?_
    refine x_iconst (v := 0) dX12_run_165 (by decide) ?_
    obtain ⟨g30, hq⟩ := hq
    obtain ⟨i31, hq⟩ := hq
    obtain ⟨h32, e33⟩ : ∃ y, y = tI h27 (fR h27 x0 3160) (Int32.toNatClampNeg 0) 0 := ⟨_, rfl⟩
    replace hq := hq h32 e33
    refine x_iast' g30 i31 dX12_run_166 e33 ?_
    refine x_aload_n 0 dX12_run_167 rfl ?_
    refine x_aload_n 0 dX12_run_168 rfl ?_
    have t34 : tg h32 x0 = 13 := by rw [e33]; exact t29
    refine x_get (v := .int (fI h32 x0 3136)) fdX12_743 dX12_run_169 t34 rfl ?_
    refine x_sipush (v := 20000) dX12_run_172 (by decide) ?_
    refine x_icmp_gt (tgt := 182) dX12_run_175 (by decide) (fun c35 => ?_) (fun c35 => ?_)
    · replace hq := hq.1 c35
      refine x_iconst (v := 0) dX12_run_182 (by decide) ?_
      refine xP.pick (lv' := [(0, rv x0)]) [0] rfl ?_
      exact uX12_run_183 hq
    · replace hq := hq.2 c35
      refine x_iconst (v := 1) dX12_run_178 (by decide) ?_
      refine x_goto (tgt := 183) dX12_run_179 (by decide) ?_
      refine xP.pick (lv' := [(0, rv x0)]) [0] rfl ?_
      exact uX12_run_183 hq
  · replace hq := hq.2 c1
    refine x_aload_n 0 dX12_run_102 rfl ?_
    obtain ⟨g36, hq⟩ := hq
    refine x_get (v := rv (fR h x0 3196)) fdX12_241 dX12_run_103 g36 rfl ?_
    refine x_iload_n 1 dX12_run_106 rfl ?_
    refine x_iload_n 1 dX12_run_107 rfl ?_
    refine x_iconst (v := 1) dX12_run_108 (by decide) ?_
    refine x_iadd dX12_run_109 ?_
    obtain ⟨g37, hq⟩ := hq
    obtain ⟨i38, hq⟩ := hq
    obtain ⟨h39, e40⟩ : ∃ y, y = tI h (fR h x0 3196) (Int32.toNatClampNeg x2) (x2 + 1) := ⟨_, rfl⟩
    replace hq := hq h39 e40
    refine x_iast' g37 i38 dX12_run_110 e40 ?_
    refine x_iinc (lv' := [(2, .int (x2 + 1)), (0, rv x0)]) 1 dX12_run_111 rfl (by decide) rfl ?_
    refine x_goto (tgt := 96) dX12_run_114 (by decide) ?_
    refine xP.pick (lv' := [(0, rv x0), (2, .int (x2 + 1))]) [1, 0] rfl ?_
    exact hq
set_option maxRecDepth 100000 in
def bX12_run (G : xG) (fr lo : Nat) (x0 : Nat) (x1 : Int32) (h : xH) (Q : Outcome → xH → Prop) : Prop := tg h x0 = 13 ∧ (∀ h2 : xH, h2 = sI h x0 3072 0 → ((¬ (fI h2 x0 3142) = 0 → (∀ h6 : xH, h6 = sI h2 x0 3143 1 → 1 ≤ fr ∧ 15 ≤ lo ∧ xRi G YJ10_max (fr - 1) (lo - 15) [.int 0, .int x1] h6 (fun x11 h10 => xext h6 h10 → 1 ≤ fr ∧ 14 ≤ lo ∧ xRi G YJ10_min (fr - 1) (lo - 14) [.int 20000, .int x11] h10 (fun x16 h15 => xext h10 h15 → (∀ h21 : xH, h21 = sI h15 x0 3175 x16 → (∀ h24 : xH, h24 = sI h21 x0 3176 0 → (∀ h27 : xH, h27 = sI h24 x0 3170 0 → (∀ h30 : xH, h30 = sI h27 x0 3171 0 → (∀ h33 : xH, h33 = sI h30 x0 3172 (-1) → (∀ h36 : xH, h36 = sI h33 x0 3151 0 → (∀ h39 : xH, h39 = sI h36 x0 3152 0 → (∀ h42 : xH, h42 = sI h39 x0 3153 0 → (∀ h45 : xH, h45 = sI h42 x0 3156 0 → (∀ h48 : xH, h48 = sI h45 x0 3157 0 → (∀ h51 : xH, h51 = sI h48 x0 3169 0 → (∀ h54 : xH, h54 = sI h51 x0 3190 0 → (∀ h57 : xH, h57 = sI h54 x0 3191 0 → lX12_run_96 G fr lo x0 0 h57 Q)))))))))))))) (fun r h2 => Q (.threw r) h2)) (fun r h2 => Q (.threw r) h2))) ∧ ((fI h2 x0 3142) = 0 → Q (.returned (some (.int (-1)))) h2)))
set_option maxRecDepth 100000 in
theorem uX12_run {G : xG} {fr lo : Nat} {x0 : Nat} {x1 : Int32} {h : xH} {Q : Outcome → xH → Prop} (hq : bX12_run G fr lo x0 x1 h Q) : xP G YX12_run fr lo 0 [(0, rv x0), (1, .int x1)] [] h Q := by
  unfold bX12_run at hq
  refine x_aload_n 0 dX12_run_0 rfl ?_
  refine x_iconst (v := 0) dX12_run_1 (by decide) ?_
  obtain ⟨g1, hq⟩ := hq
  obtain ⟨h2, e3⟩ : ∃ y, y = sI h x0 3072 0 := ⟨_, rfl⟩
  replace hq := hq h2 e3
  refine x_putI fdX12_250 xty_I1 dX12_run_2 g1 (Or.inl (by rw [g1]; rfl)) xnI rfl e3 ?_
  refine x_aload_n 0 dX12_run_5 rfl ?_
  have t4 : tg h2 x0 = 13 := by rw [e3]; exact g1
  refine x_get (v := .int (fI h2 x0 3142)) fdX12_1092 dX12_run_6 t4 rfl ?_
  refine x_if_ne (tgt := 14) dX12_run_9 (by decide) (fun c5 => ?_) (fun c5 => ?_)
  · replace hq := hq.1 c5
    refine x_aload_n 0 dX12_run_14 rfl ?_
    refine x_iconst (v := 1) dX12_run_15 (by decide) ?_
    obtain ⟨h6, e7⟩ : ∃ y, y = sI h2 x0 3143 1 := ⟨_, rfl⟩
    replace hq := hq h6 e7
    refine x_putI fdX12_1095 xty_Z1 dX12_run_16 t4 (Or.inl (by rw [t4]; rfl)) (xnB (Or.inr rfl)) rfl e7 ?_
    refine x_aload_n 0 dX12_run_19 rfl ?_
    refine x_sipush (v := 20000) dX12_run_20 (by decide) ?_
    refine x_iconst (v := 0) dX12_run_23 (by decide) ?_
    refine x_iload_n 1 dX12_run_24 rfl ?_
    obtain ⟨g8, g9, hq⟩ := hq
    refine x_callS (Yc := YJ10_max) (as := [.int 0, .int x1]) (st := [.int 20000, rv x0]) q4488 msJ10_max rfl dX12_run_25 (xle (xal1 rfl (xal1 rfl xal0)) (by decide)) (xfr g8) (xlo (xsw1 rfl (xsw1 (rv_cat _) xsw0)) (by decide) g9) (xKi hq (fun x11 h10 hq e12 => ?_) (fun _ _ q _ => q))
    replace hq := hq e12
    obtain ⟨g13, g14, hq⟩ := hq
    refine x_callS (Yc := YJ10_min) (as := [.int 20000, .int x11]) (st := [rv x0]) q3662 msJ10_min rfl dX12_run_28 (xle (xal1 rfl (xal1 rfl xal0)) (by decide)) (xfr g13) (xlo (xsw1 (rv_cat _) xsw0) (by decide) g14) (xKi hq (fun x16 h15 hq e17 => ?_) (fun _ _ q _ => q))
    replace hq := hq e17
    have t18 : tg h6 x0 = 13 := by rw [e7]; exact t4
    have t19 : tg h10 x0 = 13 := e12.tg t18 (by decide)
    have t20 : tg h15 x0 = 13 := e17.tg t19 (by decide)
    obtain ⟨h21, e22⟩ : ∃ y, y = sI h15 x0 3175 x16 := ⟨_, rfl⟩
    replace hq := hq h21 e22
    refine x_putI fdX12_1223 xty_I1 dX12_run_31 t20 (Or.inl (by rw [t20]; rfl)) xnI rfl e22 ?_
    refine x_aload_n 0 dX12_run_34 rfl ?_
    refine x_iconst (v := 0) dX12_run_35 (by decide) ?_
    have t23 : tg h21 x0 = 13 := by rw [e22]; exact t20
    obtain ⟨h24, e25⟩ : ∃ y, y = sI h21 x0 3176 0 := ⟨_, rfl⟩
    replace hq := hq h24 e25
    refine x_putI fdX12_1226 xty_I1 dX12_run_36 t23 (Or.inl (by rw [t23]; rfl)) xnI rfl e25 ?_
    refine x_aload_n 0 dX12_run_39 rfl ?_
    refine x_iconst (v := 0) dX12_run_40 (by decide) ?_
    have t26 : tg h24 x0 = 13 := by rw [e25]; exact t23
    obtain ⟨h27, e28⟩ : ∃ y, y = sI h24 x0 3170 0 := ⟨_, rfl⟩
    replace hq := hq h27 e28
    refine x_putI fdX12_1121 xty_Z1 dX12_run_41 t26 (Or.inl (by rw [t26]; rfl)) (xnB (Or.inl rfl)) rfl e28 ?_
    refine x_aload_n 0 dX12_run_44 rfl ?_
    refine x_iconst (v := 0) dX12_run_45 (by decide) ?_
    have t29 : tg h27 x0 = 13 := by rw [e28]; exact t26
    obtain ⟨h30, e31⟩ : ∃ y, y = sI h27 x0 3171 0 := ⟨_, rfl⟩
    replace hq := hq h30 e31
    refine x_putI fdX12_1124 xty_I1 dX12_run_46 t29 (Or.inl (by rw [t29]; rfl)) xnI rfl e31 ?_
    refine x_aload_n 0 dX12_run_49 rfl ?_
    refine x_iconst (v := (-1)) dX12_run_50 (by decide) ?_
    have t32 : tg h30 x0 = 13 := by rw [e31]; exact t29
    obtain ⟨h33, e34⟩ : ∃ y, y = sI h30 x0 3172 (-1) := ⟨_, rfl⟩
    replace hq := hq h33 e34
    refine x_putI fdX12_1127 xty_I1 dX12_run_51 t32 (Or.inl (by rw [t32]; rfl)) xnI rfl e34 ?_
    refine x_aload_n 0 dX12_run_54 rfl ?_
    refine x_iconst (v := 0) dX12_run_55 (by decide) ?_
    have t35 : tg h33 x0 = 13 := by rw [e34]; exact t32
    obtain ⟨h36, e37⟩ : ∃ y, y = sI h33 x0 3151 0 := ⟨_, rfl⟩
    replace hq := hq h36 e37
    refine x_putI fdX12_1360 xty_I1 dX12_run_56 t35 (Or.inl (by rw [t35]; rfl)) xnI rfl e37 ?_
    refine x_aload_n 0 dX12_run_59 rfl ?_
    refine x_iconst (v := 0) dX12_run_60 (by decide) ?_
    have t38 : tg h36 x0 = 13 := by rw [e37]; exact t35
    obtain ⟨h39, e40⟩ : ∃ y, y = sI h36 x0 3152 0 := ⟨_, rfl⟩
    replace hq := hq h39 e40
    refine x_putI fdX12_1382 xty_I1 dX12_run_61 t38 (Or.inl (by rw [t38]; rfl)) xnI rfl e40 ?_
    refine x_aload_n 0 dX12_run_64 rfl ?_
    refine x_iconst (v := 0) dX12_run_65 (by decide) ?_
    have t41 : tg h39 x0 = 13 := by rw [e40]; exact t38
    obtain ⟨h42, e43⟩ : ∃ y, y = sI h39 x0 3153 0 := ⟨_, rfl⟩
    replace hq := hq h42 e43
    refine x_putI fdX12_1436 xty_I1 dX12_run_66 t41 (Or.inl (by rw [t41]; rfl)) xnI rfl e43 ?_
    refine x_aload_n 0 dX12_run_69 rfl ?_
    refine x_iconst (v := 0) dX12_run_70 (by decide) ?_
    have t44 : tg h42 x0 = 13 := by rw [e43]; exact t41
    obtain ⟨h45, e46⟩ : ∃ y, y = sI h42 x0 3156 0 := ⟨_, rfl⟩
    replace hq := hq h45 e46
    refine x_putI fdX12_1439 xty_I1 dX12_run_71 t44 (Or.inl (by rw [t44]; rfl)) xnI rfl e46 ?_
    refine x_aload_n 0 dX12_run_74 rfl ?_
    refine x_iconst (v := 0) dX12_run_75 (by decide) ?_
    have t47 : tg h45 x0 = 13 := by rw [e46]; exact t44
    obtain ⟨h48, e49⟩ : ∃ y, y = sI h45 x0 3157 0 := ⟨_, rfl⟩
    replace hq := hq h48 e49
    refine x_putI fdX12_1433 xty_I1 dX12_run_76 t47 (Or.inl (by rw [t47]; rfl)) xnI rfl e49 ?_
    refine x_aload_n 0 dX12_run_79 rfl ?_
    refine x_iconst (v := 0) dX12_run_80 (by decide) ?_
    have t50 : tg h48 x0 = 13 := by rw [e49]; exact t47
    obtain ⟨h51, e52⟩ : ∃ y, y = sI h48 x0 3169 0 := ⟨_, rfl⟩
    replace hq := hq h51 e52
    refine x_putI fdX12_1348 xty_I1 dX12_run_81 t50 (Or.inl (by rw [t50]; rfl)) xnI rfl e52 ?_
    refine x_aload_n 0 dX12_run_84 rfl ?_
    refine x_iconst (v := 0) dX12_run_85 (by decide) ?_
    have t53 : tg h51 x0 = 13 := by rw [e52]; exact t50
    obtain ⟨h54, e55⟩ : ∃ y, y = sI h51 x0 3190 0 := ⟨_, rfl⟩
    replace hq := hq h54 e55
    refine x_putI fdX12_1175 xty_I1 dX12_run_86 t53 (Or.inl (by rw [t53]; rfl)) xnI rfl e55 ?_
    refine x_aload_n 0 dX12_run_89 rfl ?_
    refine x_iconst (v := 0) dX12_run_90 (by decide) ?_
    have t56 : tg h54 x0 = 13 := by rw [e55]; exact t53
    obtain ⟨h57, e58⟩ : ∃ y, y = sI h54 x0 3191 0 := ⟨_, rfl⟩
    replace hq := hq h57 e58
    refine x_putI fdX12_1186 xty_I1 dX12_run_91 t56 (Or.inl (by rw [t56]; rfl)) xnI rfl e58 ?_
    refine x_iconst (v := 0) dX12_run_94 (by decide) ?_
    refine x_istore_n (lv' := [(2, .int 0), (0, rv x0), (1, .int x1)]) dX12_run_95 (by decide) rfl ?_
    refine xP.pick (lv' := [(0, rv x0), (2, .int 0)]) [1, 0] rfl ?_
    exact hq
  · replace hq := hq.2 c5
    refine x_iconst (v := (-1)) dX12_run_12 (by decide) ?_
    exact x_iret rfl rfl dX12_run_13 hq
theorem rX12_run {G : xG} {fr lo : Nat} {x0 : Nat} {x1 : Int32} {h : xH} {Q : Outcome → xH → Prop} (hq : bX12_run G fr lo x0 x1 h Q) : xR G YX12_run fr lo [rv x0, .int x1] h Q := by
  show xP _ _ _ _ _ (lv_args 0 _) _ _ _
  rw [show lv_args 0 [rv x0, .int x1] = [(0, rv x0), (1, .int x1)] from (xla1 (rv_cat _) (xla1 rfl xla0))]
  exact uX12_run hq
set_option maxRecDepth 100000 in
theorem dX12_error_0 : decode cX12_error 0 = .ok (.aload_n 0, 1) := by decide +kernel
set_option maxRecDepth 100000 in
theorem dX12_error_1 : decode cX12_error 1 = .ok (.getfield 1121, 3) := by decide +kernel
set_option maxRecDepth 100000 in
theorem dX12_error_4 : decode cX12_error 4 = .ok (.ifCond .eq 4, 3) := by decide +kernel
set_option maxRecDepth 100000 in
theorem dX12_error_7 : decode cX12_error 7 = .ok (.return_, 1) := by decide +kernel
set_option maxRecDepth 100000 in
theorem dX12_error_8 : decode cX12_error 8 = .ok (.aload_n 0, 1) := by decide +kernel
set_option maxRecDepth 100000 in
theorem dX12_error_9 : decode cX12_error 9 = .ok (.iconst 1, 1) := by decide +kernel
set_option maxRecDepth 100000 in
theorem dX12_error_10 : decode cX12_error 10 = .ok (.putfield 1121, 3) := by decide +kernel
set_option maxRecDepth 100000 in
theorem dX12_error_13 : decode cX12_error 13 = .ok (.aload_n 0, 1) := by decide +kernel
set_option maxRecDepth 100000 in
theorem dX12_error_14 : decode cX12_error 14 = .ok (.iload_n 1, 1) := by decide +kernel
set_option maxRecDepth 100000 in
theorem dX12_error_15 : decode cX12_error 15 = .ok (.putfield 1124, 3) := by decide +kernel
set_option maxRecDepth 100000 in
theorem dX12_error_18 : decode cX12_error 18 = .ok (.aload_n 0, 1) := by decide +kernel
set_option maxRecDepth 100000 in
theorem dX12_error_19 : decode cX12_error 19 = .ok (.aload_n 0, 1) := by decide +kernel
set_option maxRecDepth 100000 in
theorem dX12_error_20 : decode cX12_error 20 = .ok (.getfield 29, 3) := by decide +kernel
set_option maxRecDepth 100000 in
theorem dX12_error_23 : decode cX12_error 23 = .ok (.iload_n 2, 1) := by decide +kernel
set_option maxRecDepth 100000 in
theorem dX12_error_24 : decode cX12_error 24 = .ok (.iaload, 1) := by decide +kernel
set_option maxRecDepth 100000 in
theorem dX12_error_25 : decode cX12_error 25 = .ok (.putfield 1127, 3) := by decide +kernel
set_option maxRecDepth 100000 in
theorem dX12_error_28 : decode cX12_error 28 = .ok (.return_, 1) := by decide +kernel
set_option maxRecDepth 100000 in
def bX12_error (G : xG) (fr lo : Nat) (x0 : Nat) (x1 : Int32) (x2 : Int32) (h : xH) (Q : Outcome → xH → Prop) : Prop := tg h x0 = 13 ∧ (((fI h x0 3170) = 0 → (∀ h3 : xH, h3 = sI h x0 3170 1 → (∀ h6 : xH, h6 = sI h3 x0 3171 x1 → tg h6 (fR h6 x0 3083) = 100 ∧ vp_in x2 (ln h6 (fR h6 x0 3083)) ∧ (∀ h11 : xH, h11 = sI h6 x0 3172 (aI h6 (fR h6 x0 3083) (Int32.toNatClampNeg x2)) → Q (.returned none) h11)))) ∧ (¬ (fI h x0 3170) = 0 → Q (.returned none) h))
set_option maxRecDepth 100000 in
theorem uX12_error {G : xG} {fr lo : Nat} {x0 : Nat} {x1 : Int32} {x2 : Int32} {h : xH} {Q : Outcome → xH → Prop} (hq : bX12_error G fr lo x0 x1 x2 h Q) : xP G YX12_error fr lo 0 [(0, rv x0), (1, .int x1), (2, .int x2)] [] h Q := by
  unfold bX12_error at hq
  refine x_aload_n 0 dX12_error_0 rfl ?_
  obtain ⟨g1, hq⟩ := hq
  refine x_get (v := .int (fI h x0 3170)) fdX12_1121 dX12_error_1 g1 rfl ?_
  refine x_if_eq (tgt := 8) dX12_error_4 (by decide) (fun c2 => ?_) (fun c2 => ?_)
  · replace hq := hq.1 c2
    refine x_aload_n 0 dX12_error_8 rfl ?_
    refine x_iconst (v := 1) dX12_error_9 (by decide) ?_
    obtain ⟨h3, e4⟩ : ∃ y, y = sI h x0 3170 1 := ⟨_, rfl⟩
    replace hq := hq h3 e4
    refine x_putI fdX12_1121 xty_Z1 dX12_error_10 g1 (Or.inl (by rw [g1]; rfl)) (xnB (Or.inr rfl)) rfl e4 ?_
    refine x_aload_n 0 dX12_error_13 rfl ?_
    refine x_iload_n 1 dX12_error_14 rfl ?_
    have t5 : tg h3 x0 = 13 := by rw [e4]; exact g1
    obtain ⟨h6, e7⟩ : ∃ y, y = sI h3 x0 3171 x1 := ⟨_, rfl⟩
    replace hq := hq h6 e7
    refine x_putI fdX12_1124 xty_I1 dX12_error_15 t5 (Or.inl (by rw [t5]; rfl)) xnI rfl e7 ?_
    refine x_aload_n 0 dX12_error_18 rfl ?_
    refine x_aload_n 0 dX12_error_19 rfl ?_
    have t8 : tg h6 x0 = 13 := by rw [e7]; exact t5
    refine x_get (v := rv (fR h6 x0 3083)) fdX12_29 dX12_error_20 t8 rfl ?_
    refine x_iload_n 2 dX12_error_23 rfl ?_
    obtain ⟨g9, hq⟩ := hq
    obtain ⟨i10, hq⟩ := hq
    refine x_iald 0 (Or.inl rfl) g9 i10 dX12_error_24 ?_
    obtain ⟨h11, e12⟩ : ∃ y, y = sI h6 x0 3172 (aI h6 (fR h6 x0 3083) (Int32.toNatClampNeg x2)) := ⟨_, rfl⟩
    replace hq := hq h11 e12
    refine x_putI fdX12_1127 xty_I1 dX12_error_25 t8 (Or.inl (by rw [t8]; rfl)) xnI rfl e12 ?_
    exact x_vret rfl dX12_error_28 hq
  · replace hq := hq.2 c2
    exact x_vret rfl dX12_error_7 hq
theorem rX12_error {G : xG} {fr lo : Nat} {x0 : Nat} {x1 : Int32} {x2 : Int32} {h : xH} {Q : Outcome → xH → Prop} (hq : bX12_error G fr lo x0 x1 x2 h Q) : xR G YX12_error fr lo [rv x0, .int x1, .int x2] h Q := by
  show xP _ _ _ _ _ (lv_args 0 _) _ _ _
  rw [show lv_args 0 [rv x0, .int x1, .int x2] = [(0, rv x0), (1, .int x1), (2, .int x2)] from (xla1 (rv_cat _) (xla1 rfl (xla1 rfl xla0)))]
  exact uX12_error hq
set_option maxRecDepth 100000 in
theorem dX12_blank_0 : decode cX12_blank 0 = .ok (.iload_n 1, 1) := by decide +kernel
set_option maxRecDepth 100000 in
theorem dX12_blank_1 : decode cX12_blank 1 = .ok (.istore_n 3, 1) := by decide +kernel
set_option maxRecDepth 100000 in
theorem dX12_blank_2 : decode cX12_blank 2 = .ok (.iload_n 3, 1) := by decide +kernel
set_option maxRecDepth 100000 in
theorem dX12_blank_3 : decode cX12_blank 3 = .ok (.iload_n 2, 1) := by decide +kernel
set_option maxRecDepth 100000 in
theorem dX12_blank_4 : decode cX12_blank 4 = .ok (.if_icmp .ge 16, 3) := by decide +kernel
set_option maxRecDepth 100000 in
theorem dX12_blank_7 : decode cX12_blank 7 = .ok (.aload_n 0, 1) := by decide +kernel
set_option maxRecDepth 100000 in
theorem dX12_blank_8 : decode cX12_blank 8 = .ok (.getfield 169, 3) := by decide +kernel
set_option maxRecDepth 100000 in
theorem dX12_blank_11 : decode cX12_blank 11 = .ok (.iload_n 3, 1) := by decide +kernel
set_option maxRecDepth 100000 in
theorem dX12_blank_12 : decode cX12_blank 12 = .ok (.iconst 0, 1) := by decide +kernel
set_option maxRecDepth 100000 in
theorem dX12_blank_13 : decode cX12_blank 13 = .ok (.bastore, 1) := by decide +kernel
set_option maxRecDepth 100000 in
theorem dX12_blank_14 : decode cX12_blank 14 = .ok (.iinc 3 1, 3) := by decide +kernel
set_option maxRecDepth 100000 in
theorem dX12_blank_17 : decode cX12_blank 17 = .ok (.goto (-15), 3) := by decide +kernel
set_option maxRecDepth 100000 in
theorem dX12_blank_20 : decode cX12_blank 20 = .ok (.return_, 1) := by decide +kernel
def lX12_blank_2 (G : xG) (fr lo : Nat) (x0 : Nat) (x2 : Int32) (x3 : Int32) (h : xH) (Q : Outcome → xH → Prop) : Prop := xP G YX12_blank fr lo 2 [(0, rv x0), (2, .int x2), (3, .int x3)] [] h Q
set_option maxRecDepth 100000 in
def bX12_blank_2 (G : xG) (fr lo : Nat) (x0 : Nat) (x2 : Int32) (x3 : Int32) (h : xH) (Q : Outcome → xH → Prop) : Prop := ((x2 ≤ x3 → Q (.returned none) h) ∧ (¬ x2 ≤ x3 → tg h x0 = 13 ∧ tg h (fR h x0 3150) = 104 ∧ vp_in x3 (ln h (fR h x0 3150)) ∧ (∀ h5 : xH, h5 = tI h (fR h x0 3150) (Int32.toNatClampNeg x3) (vp_nar .boolean 0) → lX12_blank_2 G fr lo x0 x2 (x3 + 1) h5 Q)))
set_option maxRecDepth 100000 in
theorem uX12_blank_2 {G : xG} {fr lo : Nat} {x0 : Nat} {x2 : Int32} {x3 : Int32} {h : xH} {Q : Outcome → xH → Prop} (hq : bX12_blank_2 G fr lo x0 x2 x3 h Q) : xP G YX12_blank fr lo 2 [(0, rv x0), (2, .int x2), (3, .int x3)] [] h Q := by
  unfold bX12_blank_2 at hq
  refine x_iload_n 2 dX12_blank_2 rfl ?_
  refine x_iload_n 1 dX12_blank_3 rfl ?_
  refine x_icmp_ge (tgt := 20) dX12_blank_4 (by decide) (fun c1 => ?_) (fun c1 => ?_)
  · replace hq := hq.1 c1
    exact x_vret rfl dX12_blank_20 hq
  · replace hq := hq.2 c1
    refine x_aload_n 0 dX12_blank_7 rfl ?_
    obtain ⟨g2, hq⟩ := hq
    refine x_get (v := rv (fR h x0 3150)) fdX12_169 dX12_blank_8 g2 rfl ?_
    refine x_iload_n 2 dX12_blank_11 rfl ?_
    refine x_iconst (v := 0) dX12_blank_12 (by decide) ?_
    obtain ⟨g3, hq⟩ := hq
    obtain ⟨i4, hq⟩ := hq
    obtain ⟨h5, e6⟩ : ∃ y, y = tI h (fR h x0 3150) (Int32.toNatClampNeg x3) (vp_nar .boolean 0) := ⟨_, rfl⟩
    replace hq := hq h5 e6
    refine x_zast' g3 i4 dX12_blank_13 e6 ?_
    refine x_iinc (lv' := [(3, .int (x3 + 1)), (0, rv x0), (2, .int x2)]) 2 dX12_blank_14 rfl (by decide) rfl ?_
    refine x_goto (tgt := 2) dX12_blank_17 (by decide) ?_
    refine xP.pick (lv' := [(0, rv x0), (2, .int x2), (3, .int (x3 + 1))]) [1, 2, 0] rfl ?_
    exact hq
set_option maxRecDepth 100000 in
def bX12_blank (G : xG) (fr lo : Nat) (x0 : Nat) (x1 : Int32) (x2 : Int32) (h : xH) (Q : Outcome → xH → Prop) : Prop := lX12_blank_2 G fr lo x0 x2 x1 h Q
set_option maxRecDepth 100000 in
theorem uX12_blank {G : xG} {fr lo : Nat} {x0 : Nat} {x1 : Int32} {x2 : Int32} {h : xH} {Q : Outcome → xH → Prop} (hq : bX12_blank G fr lo x0 x1 x2 h Q) : xP G YX12_blank fr lo 0 [(0, rv x0), (1, .int x1), (2, .int x2)] [] h Q := by
  unfold bX12_blank at hq
  refine x_iload_n 1 dX12_blank_0 rfl ?_
  refine x_istore_n (lv' := [(3, .int x1), (0, rv x0), (1, .int x1), (2, .int x2)]) dX12_blank_1 (by decide) rfl ?_
  refine xP.pick (lv' := [(0, rv x0), (2, .int x2), (3, .int x1)]) [1, 3, 0] rfl ?_
  exact hq
theorem rX12_blank {G : xG} {fr lo : Nat} {x0 : Nat} {x1 : Int32} {x2 : Int32} {h : xH} {Q : Outcome → xH → Prop} (hq : bX12_blank G fr lo x0 x1 x2 h Q) : xR G YX12_blank fr lo [rv x0, .int x1, .int x2] h Q := by
  show xP _ _ _ _ _ (lv_args 0 _) _ _ _
  rw [show lv_args 0 [rv x0, .int x1, .int x2] = [(0, rv x0), (1, .int x1), (2, .int x2)] from (xla1 (rv_cat _) (xla1 rfl (xla1 rfl xla0)))]
  exact uX12_blank hq
set_option maxRecDepth 100000 in
theorem dX12_newFile_0 : decode cX12_newFile 0 = .ok (.aload_n 0, 1) := by decide +kernel
set_option maxRecDepth 100000 in
theorem dX12_newFile_1 : decode cX12_newFile 1 = .ok (.getfield 204, 3) := by decide +kernel
set_option maxRecDepth 100000 in
theorem dX12_newFile_4 : decode cX12_newFile 4 = .ok (.aload_n 0, 1) := by decide +kernel
set_option maxRecDepth 100000 in
theorem dX12_newFile_5 : decode cX12_newFile 5 = .ok (.getfield 1175, 3) := by decide +kernel
set_option maxRecDepth 100000 in
theorem dX12_newFile_8 : decode cX12_newFile 8 = .ok (.iconst 0, 1) := by decide +kernel
set_option maxRecDepth 100000 in
theorem dX12_newFile_9 : decode cX12_newFile 9 = .ok (.iastore, 1) := by decide +kernel
set_option maxRecDepth 100000 in
theorem dX12_newFile_10 : decode cX12_newFile 10 = .ok (.aload_n 0, 1) := by decide +kernel
set_option maxRecDepth 100000 in
theorem dX12_newFile_11 : decode cX12_newFile 11 = .ok (.getfield 207, 3) := by decide +kernel
set_option maxRecDepth 100000 in
theorem dX12_newFile_14 : decode cX12_newFile 14 = .ok (.aload_n 0, 1) := by decide +kernel
set_option maxRecDepth 100000 in
theorem dX12_newFile_15 : decode cX12_newFile 15 = .ok (.getfield 1175, 3) := by decide +kernel
set_option maxRecDepth 100000 in
theorem dX12_newFile_18 : decode cX12_newFile 18 = .ok (.iconst (-1), 1) := by decide +kernel
set_option maxRecDepth 100000 in
theorem dX12_newFile_19 : decode cX12_newFile 19 = .ok (.iastore, 1) := by decide +kernel
set_option maxRecDepth 100000 in
theorem dX12_newFile_20 : decode cX12_newFile 20 = .ok (.aload_n 0, 1) := by decide +kernel
set_option maxRecDepth 100000 in
theorem dX12_newFile_21 : decode cX12_newFile 21 = .ok (.getfield 210, 3) := by decide +kernel
set_option maxRecDepth 100000 in
theorem dX12_newFile_24 : decode cX12_newFile 24 = .ok (.aload_n 0, 1) := by decide +kernel
set_option maxRecDepth 100000 in
theorem dX12_newFile_25 : decode cX12_newFile 25 = .ok (.getfield 1175, 3) := by decide +kernel
set_option maxRecDepth 100000 in
theorem dX12_newFile_28 : decode cX12_newFile 28 = .ok (.iconst (-1), 1) := by decide +kernel
set_option maxRecDepth 100000 in
theorem dX12_newFile_29 : decode cX12_newFile 29 = .ok (.iastore, 1) := by decide +kernel
set_option maxRecDepth 100000 in
theorem dX12_newFile_30 : decode cX12_newFile 30 = .ok (.aload_n 0, 1) := by decide +kernel
set_option maxRecDepth 100000 in
theorem dX12_newFile_31 : decode cX12_newFile 31 = .ok (.getfield 213, 3) := by decide +kernel
set_option maxRecDepth 100000 in
theorem dX12_newFile_34 : decode cX12_newFile 34 = .ok (.aload_n 0, 1) := by decide +kernel
set_option maxRecDepth 100000 in
theorem dX12_newFile_35 : decode cX12_newFile 35 = .ok (.getfield 1175, 3) := by decide +kernel
set_option maxRecDepth 100000 in
theorem dX12_newFile_38 : decode cX12_newFile 38 = .ok (.iconst (-1), 1) := by decide +kernel
set_option maxRecDepth 100000 in
theorem dX12_newFile_39 : decode cX12_newFile 39 = .ok (.iastore, 1) := by decide +kernel
set_option maxRecDepth 100000 in
theorem dX12_newFile_40 : decode cX12_newFile 40 = .ok (.aload_n 0, 1) := by decide +kernel
set_option maxRecDepth 100000 in
theorem dX12_newFile_41 : decode cX12_newFile 41 = .ok (.getfield 216, 3) := by decide +kernel
set_option maxRecDepth 100000 in
theorem dX12_newFile_44 : decode cX12_newFile 44 = .ok (.aload_n 0, 1) := by decide +kernel
set_option maxRecDepth 100000 in
theorem dX12_newFile_45 : decode cX12_newFile 45 = .ok (.getfield 1175, 3) := by decide +kernel
set_option maxRecDepth 100000 in
theorem dX12_newFile_48 : decode cX12_newFile 48 = .ok (.iconst 0, 1) := by decide +kernel
set_option maxRecDepth 100000 in
theorem dX12_newFile_49 : decode cX12_newFile 49 = .ok (.iastore, 1) := by decide +kernel
set_option maxRecDepth 100000 in
theorem dX12_newFile_50 : decode cX12_newFile 50 = .ok (.aload_n 0, 1) := by decide +kernel
set_option maxRecDepth 100000 in
theorem dX12_newFile_51 : decode cX12_newFile 51 = .ok (.getfield 219, 3) := by decide +kernel
set_option maxRecDepth 100000 in
theorem dX12_newFile_54 : decode cX12_newFile 54 = .ok (.aload_n 0, 1) := by decide +kernel
set_option maxRecDepth 100000 in
theorem dX12_newFile_55 : decode cX12_newFile 55 = .ok (.getfield 1175, 3) := by decide +kernel
set_option maxRecDepth 100000 in
theorem dX12_newFile_58 : decode cX12_newFile 58 = .ok (.iload_n 1, 1) := by decide +kernel
set_option maxRecDepth 100000 in
theorem dX12_newFile_59 : decode cX12_newFile 59 = .ok (.iastore, 1) := by decide +kernel
set_option maxRecDepth 100000 in
theorem dX12_newFile_60 : decode cX12_newFile 60 = .ok (.aload_n 0, 1) := by decide +kernel
set_option maxRecDepth 100000 in
theorem dX12_newFile_61 : decode cX12_newFile 61 = .ok (.getfield 222, 3) := by decide +kernel
set_option maxRecDepth 100000 in
theorem dX12_newFile_64 : decode cX12_newFile 64 = .ok (.aload_n 0, 1) := by decide +kernel
set_option maxRecDepth 100000 in
theorem dX12_newFile_65 : decode cX12_newFile 65 = .ok (.getfield 1175, 3) := by decide +kernel
set_option maxRecDepth 100000 in
theorem dX12_newFile_68 : decode cX12_newFile 68 = .ok (.iconst 0, 1) := by decide +kernel
set_option maxRecDepth 100000 in
theorem dX12_newFile_69 : decode cX12_newFile 69 = .ok (.bastore, 1) := by decide +kernel
set_option maxRecDepth 100000 in
theorem dX12_newFile_70 : decode cX12_newFile 70 = .ok (.aload_n 0, 1) := by decide +kernel
set_option maxRecDepth 100000 in
theorem dX12_newFile_71 : decode cX12_newFile 71 = .ok (.getfield 225, 3) := by decide +kernel
set_option maxRecDepth 100000 in
theorem dX12_newFile_74 : decode cX12_newFile 74 = .ok (.aload_n 0, 1) := by decide +kernel
set_option maxRecDepth 100000 in
theorem dX12_newFile_75 : decode cX12_newFile 75 = .ok (.getfield 1175, 3) := by decide +kernel
set_option maxRecDepth 100000 in
theorem dX12_newFile_78 : decode cX12_newFile 78 = .ok (.aload_n 2, 1) := by decide +kernel
set_option maxRecDepth 100000 in
theorem dX12_newFile_79 : decode cX12_newFile 79 = .ok (.aastore, 1) := by decide +kernel
set_option maxRecDepth 100000 in
theorem dX12_newFile_80 : decode cX12_newFile 80 = .ok (.aload_n 0, 1) := by decide +kernel
set_option maxRecDepth 100000 in
theorem dX12_newFile_81 : decode cX12_newFile 81 = .ok (.getfield 159, 3) := by decide +kernel
set_option maxRecDepth 100000 in
theorem dX12_newFile_84 : decode cX12_newFile 84 = .ok (.iload_n 1, 1) := by decide +kernel
set_option maxRecDepth 100000 in
theorem dX12_newFile_85 : decode cX12_newFile 85 = .ok (.aload_n 0, 1) := by decide +kernel
set_option maxRecDepth 100000 in
theorem dX12_newFile_86 : decode cX12_newFile 86 = .ok (.getfield 1175, 3) := by decide +kernel
set_option maxRecDepth 100000 in
theorem dX12_newFile_89 : decode cX12_newFile 89 = .ok (.i2l, 1) := by decide +kernel
set_option maxRecDepth 100000 in
theorem dX12_newFile_90 : decode cX12_newFile 90 = .ok (.lastore, 1) := by decide +kernel
set_option maxRecDepth 100000 in
theorem dX12_newFile_91 : decode cX12_newFile 91 = .ok (.aload_n 0, 1) := by decide +kernel
set_option maxRecDepth 100000 in
theorem dX12_newFile_92 : decode cX12_newFile 92 = .ok (.getfield 169, 3) := by decide +kernel
set_option maxRecDepth 100000 in
theorem dX12_newFile_95 : decode cX12_newFile 95 = .ok (.iload_n 1, 1) := by decide +kernel
set_option maxRecDepth 100000 in
theorem dX12_newFile_96 : decode cX12_newFile 96 = .ok (.iconst 1, 1) := by decide +kernel
set_option maxRecDepth 100000 in
theorem dX12_newFile_97 : decode cX12_newFile 97 = .ok (.bastore, 1) := by decide +kernel
set_option maxRecDepth 100000 in
theorem dX12_newFile_98 : decode cX12_newFile 98 = .ok (.aload_n 0, 1) := by decide +kernel
set_option maxRecDepth 100000 in
theorem dX12_newFile_99 : decode cX12_newFile 99 = .ok (.iload_n 1, 1) := by decide +kernel
set_option maxRecDepth 100000 in
theorem dX12_newFile_100 : decode cX12_newFile 100 = .ok (.iconst 1, 1) := by decide +kernel
set_option maxRecDepth 100000 in
theorem dX12_newFile_101 : decode cX12_newFile 101 = .ok (.iadd, 1) := by decide +kernel
set_option maxRecDepth 100000 in
theorem dX12_newFile_102 : decode cX12_newFile 102 = .ok (.iload_n 1, 1) := by decide +kernel
set_option maxRecDepth 100000 in
theorem dX12_newFile_103 : decode cX12_newFile 103 = .ok (.aload_n 2, 1) := by decide +kernel
set_option maxRecDepth 100000 in
theorem dX12_newFile_104 : decode cX12_newFile 104 = .ok (.getfield 603, 3) := by decide +kernel
set_option maxRecDepth 100000 in
theorem dX12_newFile_107 : decode cX12_newFile 107 = .ok (.l2i, 1) := by decide +kernel
set_option maxRecDepth 100000 in
theorem dX12_newFile_108 : decode cX12_newFile 108 = .ok (.iadd, 1) := by decide +kernel
set_option maxRecDepth 100000 in
theorem dX12_newFile_109 : decode cX12_newFile 109 = .ok (.invokevirtual 1178, 3) := by decide +kernel
set_option maxRecDepth 100000 in
theorem dX12_newFile_112 : decode cX12_newFile 112 = .ok (.aload_n 0, 1) := by decide +kernel
set_option maxRecDepth 100000 in
theorem dX12_newFile_113 : decode cX12_newFile 113 = .ok (.dup, 1) := by decide +kernel
set_option maxRecDepth 100000 in
theorem dX12_newFile_114 : decode cX12_newFile 114 = .ok (.getfield 1175, 3) := by decide +kernel
set_option maxRecDepth 100000 in
theorem dX12_newFile_117 : decode cX12_newFile 117 = .ok (.iconst 1, 1) := by decide +kernel
set_option maxRecDepth 100000 in
theorem dX12_newFile_118 : decode cX12_newFile 118 = .ok (.iadd, 1) := by decide +kernel
set_option maxRecDepth 100000 in
theorem dX12_newFile_119 : decode cX12_newFile 119 = .ok (.putfield 1175, 3) := by decide +kernel
set_option maxRecDepth 100000 in
theorem dX12_newFile_122 : decode cX12_newFile 122 = .ok (.return_, 1) := by decide +kernel
set_option maxRecDepth 100000 in
def bX12_newFile (G : xG) (fr lo : Nat) (x0 : Nat) (x1 : Int32) (x2 : Nat) (h : xH) (Q : Outcome → xH → Prop) : Prop := tg h x0 = 13 ∧ tg h (fR h x0 3182) = 100 ∧ vp_in (fI h x0 3190) (ln h (fR h x0 3182)) ∧ (∀ h4 : xH, h4 = tI h (fR h x0 3182) (Int32.toNatClampNeg (fI h x0 3190)) 0 → tg h4 (fR h4 x0 3183) = 100 ∧ vp_in (fI h4 x0 3190) (ln h4 (fR h4 x0 3183)) ∧ (∀ h9 : xH, h9 = tI h4 (fR h4 x0 3183) (Int32.toNatClampNeg (fI h4 x0 3190)) (-1) → tg h9 (fR h9 x0 3184) = 100 ∧ vp_in (fI h9 x0 3190) (ln h9 (fR h9 x0 3184)) ∧ (∀ h14 : xH, h14 = tI h9 (fR h9 x0 3184) (Int32.toNatClampNeg (fI h9 x0 3190)) (-1) → tg h14 (fR h14 x0 3185) = 100 ∧ vp_in (fI h14 x0 3190) (ln h14 (fR h14 x0 3185)) ∧ (∀ h19 : xH, h19 = tI h14 (fR h14 x0 3185) (Int32.toNatClampNeg (fI h14 x0 3190)) (-1) → tg h19 (fR h19 x0 3186) = 100 ∧ vp_in (fI h19 x0 3190) (ln h19 (fR h19 x0 3186)) ∧ (∀ h24 : xH, h24 = tI h19 (fR h19 x0 3186) (Int32.toNatClampNeg (fI h19 x0 3190)) 0 → tg h24 (fR h24 x0 3187) = 100 ∧ vp_in (fI h24 x0 3190) (ln h24 (fR h24 x0 3187)) ∧ (∀ h29 : xH, h29 = tI h24 (fR h24 x0 3187) (Int32.toNatClampNeg (fI h24 x0 3190)) x1 → tg h29 (fR h29 x0 3188) = 104 ∧ vp_in (fI h29 x0 3190) (ln h29 (fR h29 x0 3188)) ∧ (∀ h34 : xH, h34 = tI h29 (fR h29 x0 3188) (Int32.toNatClampNeg (fI h29 x0 3190)) (vp_nar .boolean 0) → tg h34 (fR h34 x0 3189) = 108 ∧ tg h34 x2 = 14 ∧ vp_in (fI h34 x0 3190) (ln h34 (fR h34 x0 3189)) ∧ (∀ h40 : xH, h40 = tR h34 (fR h34 x0 3189) (Int32.toNatClampNeg (fI h34 x0 3190)) x2 → tg h40 (fR h40 x0 3147) = 101 ∧ vp_in x1 (ln h40 (fR h40 x0 3147)) ∧ (∀ h45 : xH, h45 = tJ h40 (fR h40 x0 3147) (Int32.toNatClampNeg x1) (Int32.toInt64 (fI h40 x0 3190)) → tg h45 (fR h45 x0 3150) = 104 ∧ vp_in x1 (ln h45 (fR h45 x0 3150)) ∧ (∀ h50 : xH, h50 = tI h45 (fR h45 x0 3150) (Int32.toNatClampNeg x1) (vp_nar .boolean 1) → 1 ≤ fr ∧ 15 ≤ lo ∧ xRv G YX12_blank (fr - 1) (lo - 15) [rv x0, .int (x1 + 1), .int (x1 + (Int64.toInt32 (fJ h50 x2 3334)))] h50 (fun h58 => xext h50 h58 → (∀ h62 : xH, h62 = sI h58 x0 3190 ((fI h58 x0 3190) + 1) → Q (.returned none) h62)) (fun r h2 => Q (.threw r) h2)))))))))))
set_option maxRecDepth 100000 in
theorem uX12_newFile {G : xG} {fr lo : Nat} {x0 : Nat} {x1 : Int32} {x2 : Nat} {h : xH} {Q : Outcome → xH → Prop} (hq : bX12_newFile G fr lo x0 x1 x2 h Q) : xP G YX12_newFile fr lo 0 [(0, rv x0), (1, .int x1), (2, rv x2)] [] h Q := by
  unfold bX12_newFile at hq
  refine x_aload_n 0 dX12_newFile_0 rfl ?_
  obtain ⟨g1, hq⟩ := hq
  refine x_get (v := rv (fR h x0 3182)) fdX12_204 dX12_newFile_1 g1 rfl ?_
  refine x_aload_n 0 dX12_newFile_4 rfl ?_
  refine x_get (v := .int (fI h x0 3190)) fdX12_1175 dX12_newFile_5 g1 rfl ?_
  refine x_iconst (v := 0) dX12_newFile_8 (by decide) ?_
  obtain ⟨g2, hq⟩ := hq
  obtain ⟨i3, hq⟩ := hq
  obtain ⟨h4, e5⟩ : ∃ y, y = tI h (fR h x0 3182) (Int32.toNatClampNeg (fI h x0 3190)) 0 := ⟨_, rfl⟩
  replace hq := hq h4 e5
  refine x_iast' g2 i3 dX12_newFile_9 e5 ?_
  refine x_aload_n 0 dX12_newFile_10 rfl ?_
  have t6 : tg h4 x0 = 13 := by rw [e5]; exact g1
  refine x_get (v := rv (fR h4 x0 3183)) fdX12_207 dX12_newFile_11 t6 rfl ?_
  refine x_aload_n 0 dX12_newFile_14 rfl ?_
  refine x_get (v := .int (fI h4 x0 3190)) fdX12_1175 dX12_newFile_15 t6 rfl ?_
  refine x_iconst (v := (-1)) dX12_newFile_18 (by decide) ?_
  obtain ⟨g7, hq⟩ := hq
  obtain ⟨i8, hq⟩ := hq
  obtain ⟨h9, e10⟩ : ∃ y, y = tI h4 (fR h4 x0 3183) (Int32.toNatClampNeg (fI h4 x0 3190)) (-1) := ⟨_, rfl⟩
  replace hq := hq h9 e10
  refine x_iast' g7 i8 dX12_newFile_19 e10 ?_
  refine x_aload_n 0 dX12_newFile_20 rfl ?_
  have t11 : tg h9 x0 = 13 := by rw [e10]; exact t6
  refine x_get (v := rv (fR h9 x0 3184)) fdX12_210 dX12_newFile_21 t11 rfl ?_
  refine x_aload_n 0 dX12_newFile_24 rfl ?_
  refine x_get (v := .int (fI h9 x0 3190)) fdX12_1175 dX12_newFile_25 t11 rfl ?_
  refine x_iconst (v := (-1)) dX12_newFile_28 (by decide) ?_
  obtain ⟨g12, hq⟩ := hq
  obtain ⟨i13, hq⟩ := hq
  obtain ⟨h14, e15⟩ : ∃ y, y = tI h9 (fR h9 x0 3184) (Int32.toNatClampNeg (fI h9 x0 3190)) (-1) := ⟨_, rfl⟩
  replace hq := hq h14 e15
  refine x_iast' g12 i13 dX12_newFile_29 e15 ?_
  refine x_aload_n 0 dX12_newFile_30 rfl ?_
  have t16 : tg h14 x0 = 13 := by rw [e15]; exact t11
  refine x_get (v := rv (fR h14 x0 3185)) fdX12_213 dX12_newFile_31 t16 rfl ?_
  refine x_aload_n 0 dX12_newFile_34 rfl ?_
  refine x_get (v := .int (fI h14 x0 3190)) fdX12_1175 dX12_newFile_35 t16 rfl ?_
  refine x_iconst (v := (-1)) dX12_newFile_38 (by decide) ?_
  obtain ⟨g17, hq⟩ := hq
  obtain ⟨i18, hq⟩ := hq
  obtain ⟨h19, e20⟩ : ∃ y, y = tI h14 (fR h14 x0 3185) (Int32.toNatClampNeg (fI h14 x0 3190)) (-1) := ⟨_, rfl⟩
  replace hq := hq h19 e20
  refine x_iast' g17 i18 dX12_newFile_39 e20 ?_
  refine x_aload_n 0 dX12_newFile_40 rfl ?_
  have t21 : tg h19 x0 = 13 := by rw [e20]; exact t16
  refine x_get (v := rv (fR h19 x0 3186)) fdX12_216 dX12_newFile_41 t21 rfl ?_
  refine x_aload_n 0 dX12_newFile_44 rfl ?_
  refine x_get (v := .int (fI h19 x0 3190)) fdX12_1175 dX12_newFile_45 t21 rfl ?_
  refine x_iconst (v := 0) dX12_newFile_48 (by decide) ?_
  obtain ⟨g22, hq⟩ := hq
  obtain ⟨i23, hq⟩ := hq
  obtain ⟨h24, e25⟩ : ∃ y, y = tI h19 (fR h19 x0 3186) (Int32.toNatClampNeg (fI h19 x0 3190)) 0 := ⟨_, rfl⟩
  replace hq := hq h24 e25
  refine x_iast' g22 i23 dX12_newFile_49 e25 ?_
  refine x_aload_n 0 dX12_newFile_50 rfl ?_
  have t26 : tg h24 x0 = 13 := by rw [e25]; exact t21
  refine x_get (v := rv (fR h24 x0 3187)) fdX12_219 dX12_newFile_51 t26 rfl ?_
  refine x_aload_n 0 dX12_newFile_54 rfl ?_
  refine x_get (v := .int (fI h24 x0 3190)) fdX12_1175 dX12_newFile_55 t26 rfl ?_
  refine x_iload_n 1 dX12_newFile_58 rfl ?_
  obtain ⟨g27, hq⟩ := hq
  obtain ⟨i28, hq⟩ := hq
  obtain ⟨h29, e30⟩ : ∃ y, y = tI h24 (fR h24 x0 3187) (Int32.toNatClampNeg (fI h24 x0 3190)) x1 := ⟨_, rfl⟩
  replace hq := hq h29 e30
  refine x_iast' g27 i28 dX12_newFile_59 e30 ?_
  refine x_aload_n 0 dX12_newFile_60 rfl ?_
  have t31 : tg h29 x0 = 13 := by rw [e30]; exact t26
  refine x_get (v := rv (fR h29 x0 3188)) fdX12_222 dX12_newFile_61 t31 rfl ?_
  refine x_aload_n 0 dX12_newFile_64 rfl ?_
  refine x_get (v := .int (fI h29 x0 3190)) fdX12_1175 dX12_newFile_65 t31 rfl ?_
  refine x_iconst (v := 0) dX12_newFile_68 (by decide) ?_
  obtain ⟨g32, hq⟩ := hq
  obtain ⟨i33, hq⟩ := hq
  obtain ⟨h34, e35⟩ : ∃ y, y = tI h29 (fR h29 x0 3188) (Int32.toNatClampNeg (fI h29 x0 3190)) (vp_nar .boolean 0) := ⟨_, rfl⟩
  replace hq := hq h34 e35
  refine x_zast' g32 i33 dX12_newFile_69 e35 ?_
  refine x_aload_n 0 dX12_newFile_70 rfl ?_
  have t36 : tg h34 x0 = 13 := by rw [e35]; exact t31
  refine x_get (v := rv (fR h34 x0 3189)) fdX12_225 dX12_newFile_71 t36 rfl ?_
  refine x_aload_n 0 dX12_newFile_74 rfl ?_
  refine x_get (v := .int (fI h34 x0 3190)) fdX12_1175 dX12_newFile_75 t36 rfl ?_
  refine x_aload_n 2 dX12_newFile_78 rfl ?_
  obtain ⟨g37, hq⟩ := hq
  obtain ⟨g38, hq⟩ := hq
  obtain ⟨i39, hq⟩ := hq
  obtain ⟨h40, e41⟩ : ∃ y, y = tR h34 (fR h34 x0 3189) (Int32.toNatClampNeg (fI h34 x0 3190)) x2 := ⟨_, rfl⟩
  replace hq := hq h40 e41
  refine x_aast 8 13 as_8_13 g37 (Or.inl (by rw [g37]; rfl)) g38 i39 dX12_newFile_79 e41 ?_
  refine x_aload_n 0 dX12_newFile_80 rfl ?_
  have t42 : tg h40 x0 = 13 := by rw [e41]; exact t36
  refine x_get (v := rv (fR h40 x0 3147)) fdX12_159 dX12_newFile_81 t42 rfl ?_
  refine x_iload_n 1 dX12_newFile_84 rfl ?_
  refine x_aload_n 0 dX12_newFile_85 rfl ?_
  refine x_get (v := .int (fI h40 x0 3190)) fdX12_1175 dX12_newFile_86 t42 rfl ?_
  refine x_i2l dX12_newFile_89 ?_
  obtain ⟨g43, hq⟩ := hq
  obtain ⟨i44, hq⟩ := hq
  obtain ⟨h45, e46⟩ : ∃ y, y = tJ h40 (fR h40 x0 3147) (Int32.toNatClampNeg x1) (Int32.toInt64 (fI h40 x0 3190)) := ⟨_, rfl⟩
  replace hq := hq h45 e46
  refine x_last' g43 i44 dX12_newFile_90 e46 ?_
  refine x_aload_n 0 dX12_newFile_91 rfl ?_
  have t47 : tg h45 x0 = 13 := by rw [e46]; exact t42
  refine x_get (v := rv (fR h45 x0 3150)) fdX12_169 dX12_newFile_92 t47 rfl ?_
  refine x_iload_n 1 dX12_newFile_95 rfl ?_
  refine x_iconst (v := 1) dX12_newFile_96 (by decide) ?_
  obtain ⟨g48, hq⟩ := hq
  obtain ⟨i49, hq⟩ := hq
  obtain ⟨h50, e51⟩ : ∃ y, y = tI h45 (fR h45 x0 3150) (Int32.toNatClampNeg x1) (vp_nar .boolean 1) := ⟨_, rfl⟩
  replace hq := hq h50 e51
  refine x_zast' g48 i49 dX12_newFile_97 e51 ?_
  refine x_aload_n 0 dX12_newFile_98 rfl ?_
  refine x_iload_n 1 dX12_newFile_99 rfl ?_
  refine x_iconst (v := 1) dX12_newFile_100 (by decide) ?_
  refine x_iadd dX12_newFile_101 ?_
  refine x_iload_n 1 dX12_newFile_102 rfl ?_
  refine x_aload_n 2 dX12_newFile_103 rfl ?_
  have t52 : tg h40 x2 = 14 := by rw [e41]; exact g38
  have t53 : tg h45 x2 = 14 := by rw [e46]; exact t52
  have t54 : tg h50 x2 = 14 := by rw [e51]; exact t53
  refine x_get (v := .long (fJ h50 x2 3334)) fdX12_603 dX12_newFile_104 t54 rfl ?_
  refine x_l2i dX12_newFile_107 ?_
  refine x_iadd dX12_newFile_108 ?_
  have t55 : tg h50 x0 = 13 := by rw [e51]; exact t47
  obtain ⟨g56, g57, hq⟩ := hq
  refine x_callV (Yc := YX12_blank) (as := [.int (x1 + 1), .int (x1 + (Int64.toInt32 (fJ h50 x2 3334)))]) (st := []) q4494 mvX12_blank t55 rfl dX12_newFile_109 (xle (xal1 (rv_cat _) (xal1 rfl (xal1 rfl xal0))) (by decide)) (xfr g56) (xlo xsw0 (by decide) g57) (xKv hq (fun h58 hq e60 => ?_) (fun _ _ q _ => q))
  replace hq := hq e60
  refine x_aload_n 0 dX12_newFile_112 rfl ?_
  refine x_dup dX12_newFile_113 (rv_cat _) ?_
  have t61 : tg h58 x0 = 13 := e60.tg t55 (by decide)
  refine x_get (v := .int (fI h58 x0 3190)) fdX12_1175 dX12_newFile_114 t61 rfl ?_
  refine x_iconst (v := 1) dX12_newFile_117 (by decide) ?_
  refine x_iadd dX12_newFile_118 ?_
  obtain ⟨h62, e63⟩ : ∃ y, y = sI h58 x0 3190 ((fI h58 x0 3190) + 1) := ⟨_, rfl⟩
  replace hq := hq h62 e63
  refine x_putI fdX12_1175 xty_I1 dX12_newFile_119 t61 (Or.inl (by rw [t61]; rfl)) xnI rfl e63 ?_
  exact x_vret rfl dX12_newFile_122 hq
theorem rX12_newFile {G : xG} {fr lo : Nat} {x0 : Nat} {x1 : Int32} {x2 : Nat} {h : xH} {Q : Outcome → xH → Prop} (hq : bX12_newFile G fr lo x0 x1 x2 h Q) : xR G YX12_newFile fr lo [rv x0, .int x1, rv x2] h Q := by
  show xP _ _ _ _ _ (lv_args 0 _) _ _ _
  rw [show lv_args 0 [rv x0, .int x1, rv x2] = [(0, rv x0), (1, .int x1), (2, rv x2)] from (xla1 (rv_cat _) (xla1 rfl (xla1 (rv_cat _) xla0)))]
  exact uX12_newFile hq
set_option maxRecDepth 100000 in
theorem dX12_fileOfRun_0 : decode cX12_fileOfRun 0 = .ok (.aload_n 0, 1) := by decide +kernel
set_option maxRecDepth 100000 in
theorem dX12_fileOfRun_1 : decode cX12_fileOfRun 1 = .ok (.getfield 159, 3) := by decide +kernel
set_option maxRecDepth 100000 in
theorem dX12_fileOfRun_4 : decode cX12_fileOfRun 4 = .ok (.aload_n 0, 1) := by decide +kernel
set_option maxRecDepth 100000 in
theorem dX12_fileOfRun_5 : decode cX12_fileOfRun 5 = .ok (.aload_n 1, 1) := by decide +kernel
set_option maxRecDepth 100000 in
theorem dX12_fileOfRun_6 : decode cX12_fileOfRun 6 = .ok (.invokevirtual 1229, 3) := by decide +kernel
set_option maxRecDepth 100000 in
theorem dX12_fileOfRun_9 : decode cX12_fileOfRun 9 = .ok (.laload, 1) := by decide +kernel
set_option maxRecDepth 100000 in
theorem dX12_fileOfRun_10 : decode cX12_fileOfRun 10 = .ok (.l2i, 1) := by decide +kernel
set_option maxRecDepth 100000 in
theorem dX12_fileOfRun_11 : decode cX12_fileOfRun 11 = .ok (.ireturn, 1) := by decide +kernel
set_option maxRecDepth 100000 in
def bX12_fileOfRun (G : xG) (fr lo : Nat) (x0 : Nat) (x1 : Nat) (h : xH) (Q : Outcome → xH → Prop) : Prop := tg h x0 = 13 ∧ 1 ≤ fr ∧ 15 ≤ lo ∧ xRi G YX12_addressOf (fr - 1) (lo - 15) [rv x0, rv x1] h (fun x5 h4 => xext h h4 → tg h4 (fR h x0 3147) = 101 ∧ vp_in x5 (ln h4 (fR h x0 3147)) ∧ Q (.returned (some (.int (Int64.toInt32 (aJ h4 (fR h x0 3147) (Int32.toNatClampNeg x5)))))) h4) (fun r h2 => Q (.threw r) h2)
set_option maxRecDepth 100000 in
theorem uX12_fileOfRun {G : xG} {fr lo : Nat} {x0 : Nat} {x1 : Nat} {h : xH} {Q : Outcome → xH → Prop} (hq : bX12_fileOfRun G fr lo x0 x1 h Q) : xP G YX12_fileOfRun fr lo 0 [(0, rv x0), (1, rv x1)] [] h Q := by
  unfold bX12_fileOfRun at hq
  refine x_aload_n 0 dX12_fileOfRun_0 rfl ?_
  obtain ⟨g1, hq⟩ := hq
  refine x_get (v := rv (fR h x0 3147)) fdX12_159 dX12_fileOfRun_1 g1 rfl ?_
  refine x_aload_n 0 dX12_fileOfRun_4 rfl ?_
  refine x_aload_n 1 dX12_fileOfRun_5 rfl ?_
  obtain ⟨g2, g3, hq⟩ := hq
  refine x_callV (Yc := YX12_addressOf) (as := [rv x1]) (st := [rv (fR h x0 3147)]) q4506 mvX12_addressOf g1 rfl dX12_fileOfRun_6 (xle (xal1 (rv_cat _) (xal1 (rv_cat _) xal0)) (by decide)) (xfr g2) (xlo (xsw1 (rv_cat _) xsw0) (by decide) g3) (xKi hq (fun x5 h4 hq e6 => ?_) (fun _ _ q _ => q))
  replace hq := hq e6
  obtain ⟨g7, hq⟩ := hq
  obtain ⟨i8, hq⟩ := hq
  refine x_lald g7 i8 dX12_fileOfRun_9 ?_
  refine x_l2i dX12_fileOfRun_10 ?_
  exact x_iret rfl rfl dX12_fileOfRun_11 hq
theorem rX12_fileOfRun {G : xG} {fr lo : Nat} {x0 : Nat} {x1 : Nat} {h : xH} {Q : Outcome → xH → Prop} (hq : bX12_fileOfRun G fr lo x0 x1 h Q) : xR G YX12_fileOfRun fr lo [rv x0, rv x1] h Q := by
  show xP _ _ _ _ _ (lv_args 0 _) _ _ _
  rw [show lv_args 0 [rv x0, rv x1] = [(0, rv x0), (1, rv x1)] from (xla1 (rv_cat _) (xla1 (rv_cat _) xla0))]
  exact uX12_fileOfRun hq
set_option maxRecDepth 100000 in
theorem dX12_addressOf_0 : decode cX12_addressOf 0 = .ok (.aload_n 0, 1) := by decide +kernel
set_option maxRecDepth 100000 in
theorem dX12_addressOf_1 : decode cX12_addressOf 1 = .ok (.getfield 179, 3) := by decide +kernel
set_option maxRecDepth 100000 in
theorem dX12_addressOf_4 : decode cX12_addressOf 4 = .ok (.aload_n 0, 1) := by decide +kernel
set_option maxRecDepth 100000 in
theorem dX12_addressOf_5 : decode cX12_addressOf 5 = .ok (.aload_n 1, 1) := by decide +kernel
set_option maxRecDepth 100000 in
theorem dX12_addressOf_6 : decode cX12_addressOf 6 = .ok (.getfield 705, 3) := by decide +kernel
set_option maxRecDepth 100000 in
theorem dX12_addressOf_9 : decode cX12_addressOf 9 = .ok (.invokevirtual 1133, 3) := by decide +kernel
set_option maxRecDepth 100000 in
theorem dX12_addressOf_12 : decode cX12_addressOf 12 = .ok (.iaload, 1) := by decide +kernel
set_option maxRecDepth 100000 in
theorem dX12_addressOf_13 : decode cX12_addressOf 13 = .ok (.aload_n 1, 1) := by decide +kernel
set_option maxRecDepth 100000 in
theorem dX12_addressOf_14 : decode cX12_addressOf 14 = .ok (.getfield 713, 3) := by decide +kernel
set_option maxRecDepth 100000 in
theorem dX12_addressOf_17 : decode cX12_addressOf 17 = .ok (.iadd, 1) := by decide +kernel
set_option maxRecDepth 100000 in
theorem dX12_addressOf_18 : decode cX12_addressOf 18 = .ok (.istore_n 2, 1) := by decide +kernel
set_option maxRecDepth 100000 in
theorem dX12_addressOf_19 : decode cX12_addressOf 19 = .ok (.aload_n 1, 1) := by decide +kernel
set_option maxRecDepth 100000 in
theorem dX12_addressOf_20 : decode cX12_addressOf 20 = .ok (.getfield 961, 3) := by decide +kernel
set_option maxRecDepth 100000 in
theorem dX12_addressOf_23 : decode cX12_addressOf 23 = .ok (.ifCond .eq 13, 3) := by decide +kernel
set_option maxRecDepth 100000 in
theorem dX12_addressOf_26 : decode cX12_addressOf 26 = .ok (.aload_n 0, 1) := by decide +kernel
set_option maxRecDepth 100000 in
theorem dX12_addressOf_27 : decode cX12_addressOf 27 = .ok (.getfield 159, 3) := by decide +kernel
set_option maxRecDepth 100000 in
theorem dX12_addressOf_30 : decode cX12_addressOf 30 = .ok (.iload_n 2, 1) := by decide +kernel
set_option maxRecDepth 100000 in
theorem dX12_addressOf_31 : decode cX12_addressOf 31 = .ok (.laload, 1) := by decide +kernel
set_option maxRecDepth 100000 in
theorem dX12_addressOf_32 : decode cX12_addressOf 32 = .ok (.l2i, 1) := by decide +kernel
set_option maxRecDepth 100000 in
theorem dX12_addressOf_33 : decode cX12_addressOf 33 = .ok (.goto 4, 3) := by decide +kernel
set_option maxRecDepth 100000 in
theorem dX12_addressOf_36 : decode cX12_addressOf 36 = .ok (.iload_n 2, 1) := by decide +kernel
set_option maxRecDepth 100000 in
theorem dX12_addressOf_37 : decode cX12_addressOf 37 = .ok (.ireturn, 1) := by decide +kernel
set_option maxRecDepth 100000 in
def bX12_addressOf_37 (G : xG) (fr lo : Nat) (s0 : Int32) (h : xH) (Q : Outcome → xH → Prop) : Prop := Q (.returned (some (.int s0))) h
set_option maxRecDepth 100000 in
theorem uX12_addressOf_37 {G : xG} {fr lo : Nat} {s0 : Int32} {h : xH} {Q : Outcome → xH → Prop} (hq : bX12_addressOf_37 G fr lo s0 h Q) : xP G YX12_addressOf fr lo 37 [] [.int s0] h Q := by
  unfold bX12_addressOf_37 at hq
  exact x_iret rfl rfl dX12_addressOf_37 hq
set_option maxRecDepth 100000 in
def bX12_addressOf (G : xG) (fr lo : Nat) (x0 : Nat) (x1 : Nat) (h : xH) (Q : Outcome → xH → Prop) : Prop := tg h x0 = 13 ∧ tg h x1 = 24 ∧ 1 ≤ fr ∧ 15 ≤ lo ∧ xRi G YX12_frameOf (fr - 1) (lo - 15) [rv x0, .int (fI h x1 5893)] h (fun x6 h5 => xext h h5 → tg h5 (fR h x0 3158) = 100 ∧ vp_in x6 (ln h5 (fR h x0 3158)) ∧ (((fI h5 x1 5895) = 0 → bX12_addressOf_37 G fr lo ((aI h5 (fR h x0 3158) (Int32.toNatClampNeg x6)) + (fI h5 x1 5894)) h5 Q) ∧ (¬ (fI h5 x1 5895) = 0 → tg h5 (fR h5 x0 3147) = 101 ∧ vp_in ((aI h5 (fR h x0 3158) (Int32.toNatClampNeg x6)) + (fI h5 x1 5894)) (ln h5 (fR h5 x0 3147)) ∧ bX12_addressOf_37 G fr lo (Int64.toInt32 (aJ h5 (fR h5 x0 3147) (Int32.toNatClampNeg ((aI h5 (fR h x0 3158) (Int32.toNatClampNeg x6)) + (fI h5 x1 5894))))) h5 Q))) (fun r h2 => Q (.threw r) h2)
set_option maxRecDepth 100000 in
theorem uX12_addressOf {G : xG} {fr lo : Nat} {x0 : Nat} {x1 : Nat} {h : xH} {Q : Outcome → xH → Prop} (hq : bX12_addressOf G fr lo x0 x1 h Q) : xP G YX12_addressOf fr lo 0 [(0, rv x0), (1, rv x1)] [] h Q := by
  unfold bX12_addressOf at hq
  refine x_aload_n 0 dX12_addressOf_0 rfl ?_
  obtain ⟨g1, hq⟩ := hq
  refine x_get (v := rv (fR h x0 3158)) fdX12_179 dX12_addressOf_1 g1 rfl ?_
  refine x_aload_n 0 dX12_addressOf_4 rfl ?_
  refine x_aload_n 1 dX12_addressOf_5 rfl ?_
  obtain ⟨g2, hq⟩ := hq
  refine x_get (v := .int (fI h x1 5893)) fdX12_705 dX12_addressOf_6 g2 rfl ?_
  obtain ⟨g3, g4, hq⟩ := hq
  refine x_callV (Yc := YX12_frameOf) (as := [.int (fI h x1 5893)]) (st := [rv (fR h x0 3158)]) q4510 mvX12_frameOf g1 rfl dX12_addressOf_9 (xle (xal1 (rv_cat _) (xal1 rfl xal0)) (by decide)) (xfr g3) (xlo (xsw1 (rv_cat _) xsw0) (by decide) g4) (xKi hq (fun x6 h5 hq e7 => ?_) (fun _ _ q _ => q))
  replace hq := hq e7
  obtain ⟨g8, hq⟩ := hq
  obtain ⟨i9, hq⟩ := hq
  refine x_iald 0 (Or.inl rfl) g8 i9 dX12_addressOf_12 ?_
  refine x_aload_n 1 dX12_addressOf_13 rfl ?_
  have t10 : tg h5 x1 = 24 := e7.tg g2 (by decide)
  refine x_get (v := .int (fI h5 x1 5894)) fdX12_713 dX12_addressOf_14 t10 rfl ?_
  refine x_iadd dX12_addressOf_17 ?_
  refine x_istore_n (lv' := [(2, .int ((aI h5 (fR h x0 3158) (Int32.toNatClampNeg x6)) + (fI h5 x1 5894))), (0, rv x0), (1, rv x1)]) dX12_addressOf_18 (by decide) (by first | rfl | (simp [rv_cat, Value.category]; done) | (simp [rv_cat, Value.category]; decide)) ?_
  refine x_aload_n 2 dX12_addressOf_19 rfl ?_
  refine x_get (v := .int (fI h5 x1 5895)) fdX12_961 dX12_addressOf_20 t10 rfl ?_
  refine x_if_eq (tgt := 36) dX12_addressOf_23 (by decide) (fun c11 => ?_) (fun c11 => ?_)
  · replace hq := hq.1 c11
    refine x_iload_n 0 dX12_addressOf_36 rfl ?_
    refine xP.pick (lv' := []) [] rfl ?_
    exact uX12_addressOf_37 hq
  · replace hq := hq.2 c11
    refine x_aload_n 1 dX12_addressOf_26 rfl ?_
    have t12 : tg h5 x0 = 13 := e7.tg g1 (by decide)
    refine x_get (v := rv (fR h5 x0 3147)) fdX12_159 dX12_addressOf_27 t12 rfl ?_
    refine x_iload_n 0 dX12_addressOf_30 rfl ?_
    obtain ⟨g13, hq⟩ := hq
    obtain ⟨i14, hq⟩ := hq
    refine x_lald g13 i14 dX12_addressOf_31 ?_
    refine x_l2i dX12_addressOf_32 ?_
    refine x_goto (tgt := 37) dX12_addressOf_33 (by decide) ?_
    refine xP.pick (lv' := []) [] rfl ?_
    exact uX12_addressOf_37 hq
theorem rX12_addressOf {G : xG} {fr lo : Nat} {x0 : Nat} {x1 : Nat} {h : xH} {Q : Outcome → xH → Prop} (hq : bX12_addressOf G fr lo x0 x1 h Q) : xR G YX12_addressOf fr lo [rv x0, rv x1] h Q := by
  show xP _ _ _ _ _ (lv_args 0 _) _ _ _
  rw [show lv_args 0 [rv x0, rv x1] = [(0, rv x0), (1, rv x1)] from (xla1 (rv_cat _) (xla1 (rv_cat _) xla0))]
  exact uX12_addressOf hq
set_option maxRecDepth 100000 in
theorem dX12_frameOf_0 : decode cX12_frameOf 0 = .ok (.aload_n 0, 1) := by decide +kernel
set_option maxRecDepth 100000 in
theorem dX12_frameOf_1 : decode cX12_frameOf 1 = .ok (.getfield 1130, 3) := by decide +kernel
set_option maxRecDepth 100000 in
theorem dX12_frameOf_4 : decode cX12_frameOf 4 = .ok (.istore_n 2, 1) := by decide +kernel
set_option maxRecDepth 100000 in
theorem dX12_frameOf_5 : decode cX12_frameOf 5 = .ok (.aload_n 0, 1) := by decide +kernel
set_option maxRecDepth 100000 in
theorem dX12_frameOf_6 : decode cX12_frameOf 6 = .ok (.getfield 185, 3) := by decide +kernel
set_option maxRecDepth 100000 in
theorem dX12_frameOf_9 : decode cX12_frameOf 9 = .ok (.iload_n 2, 1) := by decide +kernel
set_option maxRecDepth 100000 in
theorem dX12_frameOf_10 : decode cX12_frameOf 10 = .ok (.iaload, 1) := by decide +kernel
set_option maxRecDepth 100000 in
theorem dX12_frameOf_11 : decode cX12_frameOf 11 = .ok (.iload_n 1, 1) := by decide +kernel
set_option maxRecDepth 100000 in
theorem dX12_frameOf_12 : decode cX12_frameOf 12 = .ok (.if_icmp .le 13, 3) := by decide +kernel
set_option maxRecDepth 100000 in
theorem dX12_frameOf_15 : decode cX12_frameOf 15 = .ok (.aload_n 0, 1) := by decide +kernel
set_option maxRecDepth 100000 in
theorem dX12_frameOf_16 : decode cX12_frameOf 16 = .ok (.getfield 182, 3) := by decide +kernel
set_option maxRecDepth 100000 in
theorem dX12_frameOf_19 : decode cX12_frameOf 19 = .ok (.iload_n 2, 1) := by decide +kernel
set_option maxRecDepth 100000 in
theorem dX12_frameOf_20 : decode cX12_frameOf 20 = .ok (.iaload, 1) := by decide +kernel
set_option maxRecDepth 100000 in
theorem dX12_frameOf_21 : decode cX12_frameOf 21 = .ok (.istore_n 2, 1) := by decide +kernel
set_option maxRecDepth 100000 in
theorem dX12_frameOf_22 : decode cX12_frameOf 22 = .ok (.goto (-17), 3) := by decide +kernel
set_option maxRecDepth 100000 in
theorem dX12_frameOf_25 : decode cX12_frameOf 25 = .ok (.iload_n 2, 1) := by decide +kernel
set_option maxRecDepth 100000 in
theorem dX12_frameOf_26 : decode cX12_frameOf 26 = .ok (.ireturn, 1) := by decide +kernel
def lX12_frameOf_5 (G : xG) (fr lo : Nat) (x0 : Nat) (x1 : Int32) (x2 : Int32) (h : xH) (Q : Outcome → xH → Prop) : Prop := xP G YX12_frameOf fr lo 5 [(0, rv x0), (1, .int x1), (2, .int x2)] [] h Q
set_option maxRecDepth 100000 in
def bX12_frameOf_5 (G : xG) (fr lo : Nat) (x0 : Nat) (x1 : Int32) (x2 : Int32) (h : xH) (Q : Outcome → xH → Prop) : Prop := tg h x0 = 13 ∧ tg h (fR h x0 3160) = 100 ∧ vp_in x2 (ln h (fR h x0 3160)) ∧ (((aI h (fR h x0 3160) (Int32.toNatClampNeg x2)) ≤ x1 → Q (.returned (some (.int x2))) h) ∧ (¬ (aI h (fR h x0 3160) (Int32.toNatClampNeg x2)) ≤ x1 → tg h (fR h x0 3159) = 100 ∧ vp_in x2 (ln h (fR h x0 3159)) ∧ lX12_frameOf_5 G fr lo x0 x1 (aI h (fR h x0 3159) (Int32.toNatClampNeg x2)) h Q))
set_option maxRecDepth 100000 in
theorem uX12_frameOf_5 {G : xG} {fr lo : Nat} {x0 : Nat} {x1 : Int32} {x2 : Int32} {h : xH} {Q : Outcome → xH → Prop} (hq : bX12_frameOf_5 G fr lo x0 x1 x2 h Q) : xP G YX12_frameOf fr lo 5 [(0, rv x0), (1, .int x1), (2, .int x2)] [] h Q := by
  unfold bX12_frameOf_5 at hq
  refine x_aload_n 0 dX12_frameOf_5 rfl ?_
  obtain ⟨g1, hq⟩ := hq
  refine x_get (v := rv (fR h x0 3160)) fdX12_185 dX12_frameOf_6 g1 rfl ?_
  refine x_iload_n 2 dX12_frameOf_9 rfl ?_
  obtain ⟨g2, hq⟩ := hq
  obtain ⟨i3, hq⟩ := hq
  refine x_iald 0 (Or.inl rfl) g2 i3 dX12_frameOf_10 ?_
  refine x_iload_n 1 dX12_frameOf_11 rfl ?_
  refine x_icmp_le (tgt := 25) dX12_frameOf_12 (by decide) (fun c4 => ?_) (fun c4 => ?_)
  · replace hq := hq.1 c4
    refine x_iload_n 2 dX12_frameOf_25 rfl ?_
    exact x_iret rfl rfl dX12_frameOf_26 hq
  · replace hq := hq.2 c4
    refine x_aload_n 0 dX12_frameOf_15 rfl ?_
    refine x_get (v := rv (fR h x0 3159)) fdX12_182 dX12_frameOf_16 g1 rfl ?_
    refine x_iload_n 2 dX12_frameOf_19 rfl ?_
    obtain ⟨g5, hq⟩ := hq
    obtain ⟨i6, hq⟩ := hq
    refine x_iald 0 (Or.inl rfl) g5 i6 dX12_frameOf_20 ?_
    refine x_istore_n (lv' := [(2, .int (aI h (fR h x0 3159) (Int32.toNatClampNeg x2))), (0, rv x0), (1, .int x1)]) dX12_frameOf_21 (by decide) rfl ?_
    refine x_goto (tgt := 5) dX12_frameOf_22 (by decide) ?_
    refine xP.pick (lv' := [(0, rv x0), (1, .int x1), (2, .int (aI h (fR h x0 3159) (Int32.toNatClampNeg x2)))]) [1, 2, 0] rfl ?_
    exact hq
set_option maxRecDepth 100000 in
def bX12_frameOf (G : xG) (fr lo : Nat) (x0 : Nat) (x1 : Int32) (h : xH) (Q : Outcome → xH → Prop) : Prop := tg h x0 = 13 ∧ lX12_frameOf_5 G fr lo x0 x1 (fI h x0 3163) h Q
set_option maxRecDepth 100000 in
theorem uX12_frameOf {G : xG} {fr lo : Nat} {x0 : Nat} {x1 : Int32} {h : xH} {Q : Outcome → xH → Prop} (hq : bX12_frameOf G fr lo x0 x1 h Q) : xP G YX12_frameOf fr lo 0 [(0, rv x0), (1, .int x1)] [] h Q := by
  unfold bX12_frameOf at hq
  refine x_aload_n 0 dX12_frameOf_0 rfl ?_
  obtain ⟨g1, hq⟩ := hq
  refine x_get (v := .int (fI h x0 3163)) fdX12_1130 dX12_frameOf_1 g1 rfl ?_
  refine x_istore_n (lv' := [(2, .int (fI h x0 3163)), (0, rv x0), (1, .int x1)]) dX12_frameOf_4 (by decide) rfl ?_
  refine xP.pick (lv' := [(0, rv x0), (1, .int x1), (2, .int (fI h x0 3163))]) [1, 2, 0] rfl ?_
  exact hq
theorem rX12_frameOf {G : xG} {fr lo : Nat} {x0 : Nat} {x1 : Int32} {h : xH} {Q : Outcome → xH → Prop} (hq : bX12_frameOf G fr lo x0 x1 h Q) : xR G YX12_frameOf fr lo [rv x0, .int x1] h Q := by
  show xP _ _ _ _ _ (lv_args 0 _) _ _ _
  rw [show lv_args 0 [rv x0, .int x1] = [(0, rv x0), (1, .int x1)] from (xla1 (rv_cat _) (xla1 rfl xla0))]
  exact uX12_frameOf hq
set_option maxRecDepth 100000 in
theorem dX12_linkByte_0 : decode cX12_linkByte 0 = .ok (.aload_n 0, 1) := by decide +kernel
set_option maxRecDepth 100000 in
theorem dX12_linkByte_1 : decode cX12_linkByte 1 = .ok (.iload_n 1, 1) := by decide +kernel
set_option maxRecDepth 100000 in
theorem dX12_linkByte_2 : decode cX12_linkByte 2 = .ok (.invokevirtual 1189, 3) := by decide +kernel
set_option maxRecDepth 100000 in
theorem dX12_linkByte_5 : decode cX12_linkByte 5 = .ok (.istore_n 3, 1) := by decide +kernel
set_option maxRecDepth 100000 in
theorem dX12_linkByte_6 : decode cX12_linkByte 6 = .ok (.aload_n 0, 1) := by decide +kernel
set_option maxRecDepth 100000 in
theorem dX12_linkByte_7 : decode cX12_linkByte 7 = .ok (.getfield 229, 3) := by decide +kernel
set_option maxRecDepth 100000 in
theorem dX12_linkByte_10 : decode cX12_linkByte 10 = .ok (.iload_n 3, 1) := by decide +kernel
set_option maxRecDepth 100000 in
theorem dX12_linkByte_11 : decode cX12_linkByte 11 = .ok (.iload_n 2, 1) := by decide +kernel
set_option maxRecDepth 100000 in
theorem dX12_linkByte_12 : decode cX12_linkByte 12 = .ok (.i2l, 1) := by decide +kernel
set_option maxRecDepth 100000 in
theorem dX12_linkByte_13 : decode cX12_linkByte 13 = .ok (.lastore, 1) := by decide +kernel
set_option maxRecDepth 100000 in
theorem dX12_linkByte_14 : decode cX12_linkByte 14 = .ok (.aload_n 0, 1) := by decide +kernel
set_option maxRecDepth 100000 in
theorem dX12_linkByte_15 : decode cX12_linkByte 15 = .ok (.getfield 238, 3) := by decide +kernel
set_option maxRecDepth 100000 in
theorem dX12_linkByte_18 : decode cX12_linkByte 18 = .ok (.iload_n 3, 1) := by decide +kernel
set_option maxRecDepth 100000 in
theorem dX12_linkByte_19 : decode cX12_linkByte 19 = .ok (.iconst 1, 1) := by decide +kernel
set_option maxRecDepth 100000 in
theorem dX12_linkByte_20 : decode cX12_linkByte 20 = .ok (.bastore, 1) := by decide +kernel
set_option maxRecDepth 100000 in
theorem dX12_linkByte_21 : decode cX12_linkByte 21 = .ok (.return_, 1) := by decide +kernel
set_option maxRecDepth 100000 in
def bX12_linkByte (G : xG) (fr lo : Nat) (x0 : Nat) (x1 : Int32) (x2 : Int32) (h : xH) (Q : Outcome → xH → Prop) : Prop := tg h x0 = 13 ∧ 1 ≤ fr ∧ 14 ≤ lo ∧ xRi G YX12_link (fr - 1) (lo - 14) [rv x0, .int x1] h (fun x5 h4 => xext h h4 → tg h4 (fR h4 x0 3192) = 101 ∧ vp_in x5 (ln h4 (fR h4 x0 3192)) ∧ (∀ h10 : xH, h10 = tJ h4 (fR h4 x0 3192) (Int32.toNatClampNeg x5) (Int32.toInt64 x2) → tg h10 (fR h10 x0 3195) = 104 ∧ vp_in x5 (ln h10 (fR h10 x0 3195)) ∧ (∀ h15 : xH, h15 = tI h10 (fR h10 x0 3195) (Int32.toNatClampNeg x5) (vp_nar .boolean 1) → Q (.returned none) h15))) (fun r h2 => Q (.threw r) h2)
set_option maxRecDepth 100000 in
theorem uX12_linkByte {G : xG} {fr lo : Nat} {x0 : Nat} {x1 : Int32} {x2 : Int32} {h : xH} {Q : Outcome → xH → Prop} (hq : bX12_linkByte G fr lo x0 x1 x2 h Q) : xP G YX12_linkByte fr lo 0 [(0, rv x0), (1, .int x1), (2, .int x2)] [] h Q := by
  unfold bX12_linkByte at hq
  refine x_aload_n 0 dX12_linkByte_0 rfl ?_
  refine x_iload_n 1 dX12_linkByte_1 rfl ?_
  obtain ⟨g1, hq⟩ := hq
  obtain ⟨g2, g3, hq⟩ := hq
  refine x_callV (Yc := YX12_link) (as := [.int x1]) (st := []) q4518 mvX12_link g1 rfl dX12_linkByte_2 (xle (xal1 (rv_cat _) (xal1 rfl xal0)) (by decide)) (xfr g2) (xlo xsw0 (by decide) g3) (xKi hq (fun x5 h4 hq e6 => ?_) (fun _ _ q _ => q))
  replace hq := hq e6
  refine x_istore_n (lv' := [(3, .int x5), (0, rv x0), (1, .int x1), (2, .int x2)]) dX12_linkByte_5 (by decide) rfl ?_
  refine x_aload_n 1 dX12_linkByte_6 rfl ?_
  have t7 : tg h4 x0 = 13 := e6.tg g1 (by decide)
  refine x_get (v := rv (fR h4 x0 3192)) fdX12_229 dX12_linkByte_7 t7 rfl ?_
  refine x_iload_n 0 dX12_linkByte_10 rfl ?_
  refine x_iload_n 3 dX12_linkByte_11 rfl ?_
  refine x_i2l dX12_linkByte_12 ?_
  obtain ⟨g8, hq⟩ := hq
  obtain ⟨i9, hq⟩ := hq
  obtain ⟨h10, e11⟩ : ∃ y, y = tJ h4 (fR h4 x0 3192) (Int32.toNatClampNeg x5) (Int32.toInt64 x2) := ⟨_, rfl⟩
  replace hq := hq h10 e11
  refine x_last' g8 i9 dX12_linkByte_13 e11 ?_
  refine x_aload_n 1 dX12_linkByte_14 rfl ?_
  have t12 : tg h10 x0 = 13 := by rw [e11]; exact t7
  refine x_get (v := rv (fR h10 x0 3195)) fdX12_238 dX12_linkByte_15 t12 rfl ?_
  refine x_iload_n 0 dX12_linkByte_18 rfl ?_
  refine x_iconst (v := 1) dX12_linkByte_19 (by decide) ?_
  obtain ⟨g13, hq⟩ := hq
  obtain ⟨i14, hq⟩ := hq
  obtain ⟨h15, e16⟩ : ∃ y, y = tI h10 (fR h10 x0 3195) (Int32.toNatClampNeg x5) (vp_nar .boolean 1) := ⟨_, rfl⟩
  replace hq := hq h15 e16
  refine x_zast' g13 i14 dX12_linkByte_20 e16 ?_
  exact x_vret rfl dX12_linkByte_21 hq
theorem rX12_linkByte {G : xG} {fr lo : Nat} {x0 : Nat} {x1 : Int32} {x2 : Int32} {h : xH} {Q : Outcome → xH → Prop} (hq : bX12_linkByte G fr lo x0 x1 x2 h Q) : xR G YX12_linkByte fr lo [rv x0, .int x1, .int x2] h Q := by
  show xP _ _ _ _ _ (lv_args 0 _) _ _ _
  rw [show lv_args 0 [rv x0, .int x1, .int x2] = [(0, rv x0), (1, .int x1), (2, .int x2)] from (xla1 (rv_cat _) (xla1 rfl (xla1 rfl xla0)))]
  exact uX12_linkByte hq
set_option maxRecDepth 100000 in
theorem dX12_link_0 : decode cX12_link 0 = .ok (.aload_n 0, 1) := by decide +kernel
set_option maxRecDepth 100000 in
theorem dX12_link_1 : decode cX12_link 1 = .ok (.getfield 1183, 3) := by decide +kernel
set_option maxRecDepth 100000 in
theorem dX12_link_4 : decode cX12_link 4 = .ok (.istore_n 2, 1) := by decide +kernel
set_option maxRecDepth 100000 in
theorem dX12_link_5 : decode cX12_link 5 = .ok (.aload_n 0, 1) := by decide +kernel
set_option maxRecDepth 100000 in
theorem dX12_link_6 : decode cX12_link 6 = .ok (.aload_n 0, 1) := by decide +kernel
set_option maxRecDepth 100000 in
theorem dX12_link_7 : decode cX12_link 7 = .ok (.getfield 241, 3) := by decide +kernel
set_option maxRecDepth 100000 in
theorem dX12_link_10 : decode cX12_link 10 = .ok (.iload_n 2, 1) := by decide +kernel
set_option maxRecDepth 100000 in
theorem dX12_link_11 : decode cX12_link 11 = .ok (.iaload, 1) := by decide +kernel
set_option maxRecDepth 100000 in
theorem dX12_link_12 : decode cX12_link 12 = .ok (.putfield 1183, 3) := by decide +kernel
set_option maxRecDepth 100000 in
theorem dX12_link_15 : decode cX12_link 15 = .ok (.aload_n 0, 1) := by decide +kernel
set_option maxRecDepth 100000 in
theorem dX12_link_16 : decode cX12_link 16 = .ok (.getfield 241, 3) := by decide +kernel
set_option maxRecDepth 100000 in
theorem dX12_link_19 : decode cX12_link 19 = .ok (.iload_n 2, 1) := by decide +kernel
set_option maxRecDepth 100000 in
theorem dX12_link_20 : decode cX12_link 20 = .ok (.iconst (-1), 1) := by decide +kernel
set_option maxRecDepth 100000 in
theorem dX12_link_21 : decode cX12_link 21 = .ok (.iastore, 1) := by decide +kernel
set_option maxRecDepth 100000 in
theorem dX12_link_22 : decode cX12_link 22 = .ok (.aload_n 0, 1) := by decide +kernel
set_option maxRecDepth 100000 in
theorem dX12_link_23 : decode cX12_link 23 = .ok (.getfield 207, 3) := by decide +kernel
set_option maxRecDepth 100000 in
theorem dX12_link_26 : decode cX12_link 26 = .ok (.iload_n 1, 1) := by decide +kernel
set_option maxRecDepth 100000 in
theorem dX12_link_27 : decode cX12_link 27 = .ok (.iaload, 1) := by decide +kernel
set_option maxRecDepth 100000 in
theorem dX12_link_28 : decode cX12_link 28 = .ok (.iconst (-1), 1) := by decide +kernel
set_option maxRecDepth 100000 in
theorem dX12_link_29 : decode cX12_link 29 = .ok (.if_icmp .ne 13, 3) := by decide +kernel
set_option maxRecDepth 100000 in
theorem dX12_link_32 : decode cX12_link 32 = .ok (.aload_n 0, 1) := by decide +kernel
set_option maxRecDepth 100000 in
theorem dX12_link_33 : decode cX12_link 33 = .ok (.getfield 207, 3) := by decide +kernel
set_option maxRecDepth 100000 in
theorem dX12_link_36 : decode cX12_link 36 = .ok (.iload_n 1, 1) := by decide +kernel
set_option maxRecDepth 100000 in
theorem dX12_link_37 : decode cX12_link 37 = .ok (.iload_n 2, 1) := by decide +kernel
set_option maxRecDepth 100000 in
theorem dX12_link_38 : decode cX12_link 38 = .ok (.iastore, 1) := by decide +kernel
set_option maxRecDepth 100000 in
theorem dX12_link_39 : decode cX12_link 39 = .ok (.goto 15, 3) := by decide +kernel
set_option maxRecDepth 100000 in
theorem dX12_link_42 : decode cX12_link 42 = .ok (.aload_n 0, 1) := by decide +kernel
set_option maxRecDepth 100000 in
theorem dX12_link_43 : decode cX12_link 43 = .ok (.getfield 241, 3) := by decide +kernel
set_option maxRecDepth 100000 in
theorem dX12_link_46 : decode cX12_link 46 = .ok (.aload_n 0, 1) := by decide +kernel
set_option maxRecDepth 100000 in
theorem dX12_link_47 : decode cX12_link 47 = .ok (.getfield 210, 3) := by decide +kernel
set_option maxRecDepth 100000 in
theorem dX12_link_50 : decode cX12_link 50 = .ok (.iload_n 1, 1) := by decide +kernel
set_option maxRecDepth 100000 in
theorem dX12_link_51 : decode cX12_link 51 = .ok (.iaload, 1) := by decide +kernel
set_option maxRecDepth 100000 in
theorem dX12_link_52 : decode cX12_link 52 = .ok (.iload_n 2, 1) := by decide +kernel
set_option maxRecDepth 100000 in
theorem dX12_link_53 : decode cX12_link 53 = .ok (.iastore, 1) := by decide +kernel
set_option maxRecDepth 100000 in
theorem dX12_link_54 : decode cX12_link 54 = .ok (.aload_n 0, 1) := by decide +kernel
set_option maxRecDepth 100000 in
theorem dX12_link_55 : decode cX12_link 55 = .ok (.getfield 210, 3) := by decide +kernel
set_option maxRecDepth 100000 in
theorem dX12_link_58 : decode cX12_link 58 = .ok (.iload_n 1, 1) := by decide +kernel
set_option maxRecDepth 100000 in
theorem dX12_link_59 : decode cX12_link 59 = .ok (.iload_n 2, 1) := by decide +kernel
set_option maxRecDepth 100000 in
theorem dX12_link_60 : decode cX12_link 60 = .ok (.iastore, 1) := by decide +kernel
set_option maxRecDepth 100000 in
theorem dX12_link_61 : decode cX12_link 61 = .ok (.aload_n 0, 1) := by decide +kernel
set_option maxRecDepth 100000 in
theorem dX12_link_62 : decode cX12_link 62 = .ok (.getfield 216, 3) := by decide +kernel
set_option maxRecDepth 100000 in
theorem dX12_link_65 : decode cX12_link 65 = .ok (.iload_n 1, 1) := by decide +kernel
set_option maxRecDepth 100000 in
theorem dX12_link_66 : decode cX12_link 66 = .ok (.dup2, 1) := by decide +kernel
set_option maxRecDepth 100000 in
theorem dX12_link_67 : decode cX12_link 67 = .ok (.iaload, 1) := by decide +kernel
set_option maxRecDepth 100000 in
theorem dX12_link_68 : decode cX12_link 68 = .ok (.iconst 1, 1) := by decide +kernel
set_option maxRecDepth 100000 in
theorem dX12_link_69 : decode cX12_link 69 = .ok (.iadd, 1) := by decide +kernel
set_option maxRecDepth 100000 in
theorem dX12_link_70 : decode cX12_link 70 = .ok (.iastore, 1) := by decide +kernel
set_option maxRecDepth 100000 in
theorem dX12_link_71 : decode cX12_link 71 = .ok (.aload_n 0, 1) := by decide +kernel
set_option maxRecDepth 100000 in
theorem dX12_link_72 : decode cX12_link 72 = .ok (.dup, 1) := by decide +kernel
set_option maxRecDepth 100000 in
theorem dX12_link_73 : decode cX12_link 73 = .ok (.getfield 1186, 3) := by decide +kernel
set_option maxRecDepth 100000 in
theorem dX12_link_76 : decode cX12_link 76 = .ok (.iconst 1, 1) := by decide +kernel
set_option maxRecDepth 100000 in
theorem dX12_link_77 : decode cX12_link 77 = .ok (.iadd, 1) := by decide +kernel
set_option maxRecDepth 100000 in
theorem dX12_link_78 : decode cX12_link 78 = .ok (.putfield 1186, 3) := by decide +kernel
set_option maxRecDepth 100000 in
theorem dX12_link_81 : decode cX12_link 81 = .ok (.iload_n 2, 1) := by decide +kernel
set_option maxRecDepth 100000 in
theorem dX12_link_82 : decode cX12_link 82 = .ok (.ireturn, 1) := by decide +kernel
set_option maxRecDepth 100000 in
def bX12_link_54 (G : xG) (fr lo : Nat) (x0 : Nat) (x1 : Int32) (x2 : Int32) (h : xH) (Q : Outcome → xH → Prop) : Prop := tg h x0 = 13 ∧ tg h (fR h x0 3184) = 100 ∧ vp_in x1 (ln h (fR h x0 3184)) ∧ (∀ h4 : xH, h4 = tI h (fR h x0 3184) (Int32.toNatClampNeg x1) x2 → tg h4 (fR h4 x0 3186) = 100 ∧ vp_in x1 (ln h4 (fR h4 x0 3186)) ∧ vp_in x1 (ln h4 (fR h4 x0 3186)) ∧ (∀ h10 : xH, h10 = tI h4 (fR h4 x0 3186) (Int32.toNatClampNeg x1) ((aI h4 (fR h4 x0 3186) (Int32.toNatClampNeg x1)) + 1) → (∀ h13 : xH, h13 = sI h10 x0 3191 ((fI h10 x0 3191) + 1) → Q (.returned (some (.int x2))) h13)))
set_option maxRecDepth 100000 in
theorem uX12_link_54 {G : xG} {fr lo : Nat} {x0 : Nat} {x1 : Int32} {x2 : Int32} {h : xH} {Q : Outcome → xH → Prop} (hq : bX12_link_54 G fr lo x0 x1 x2 h Q) : xP G YX12_link fr lo 54 [(0, rv x0), (1, .int x1), (2, .int x2)] [] h Q := by
  unfold bX12_link_54 at hq
  refine x_aload_n 0 dX12_link_54 rfl ?_
  obtain ⟨g1, hq⟩ := hq
  refine x_get (v := rv (fR h x0 3184)) fdX12_210 dX12_link_55 g1 rfl ?_
  refine x_iload_n 1 dX12_link_58 rfl ?_
  refine x_iload_n 2 dX12_link_59 rfl ?_
  obtain ⟨g2, hq⟩ := hq
  obtain ⟨i3, hq⟩ := hq
  obtain ⟨h4, e5⟩ : ∃ y, y = tI h (fR h x0 3184) (Int32.toNatClampNeg x1) x2 := ⟨_, rfl⟩
  replace hq := hq h4 e5
  refine x_iast' g2 i3 dX12_link_60 e5 ?_
  refine x_aload_n 0 dX12_link_61 rfl ?_
  have t6 : tg h4 x0 = 13 := by rw [e5]; exact g1
  refine x_get (v := rv (fR h4 x0 3186)) fdX12_216 dX12_link_62 t6 rfl ?_
  refine x_iload_n 1 dX12_link_65 rfl ?_
  refine x_dup2 dX12_link_66 rfl (rv_cat _) ?_
  obtain ⟨g7, hq⟩ := hq
  obtain ⟨i8, hq⟩ := hq
  refine x_iald 0 (Or.inl rfl) g7 i8 dX12_link_67 ?_
  refine x_iconst (v := 1) dX12_link_68 (by decide) ?_
  refine x_iadd dX12_link_69 ?_
  obtain ⟨i9, hq⟩ := hq
  obtain ⟨h10, e11⟩ : ∃ y, y = tI h4 (fR h4 x0 3186) (Int32.toNatClampNeg x1) ((aI h4 (fR h4 x0 3186) (Int32.toNatClampNeg x1)) + 1) := ⟨_, rfl⟩
  replace hq := hq h10 e11
  refine x_iast' g7 i9 dX12_link_70 e11 ?_
  refine x_aload_n 0 dX12_link_71 rfl ?_
  refine x_dup dX12_link_72 (rv_cat _) ?_
  have t12 : tg h10 x0 = 13 := by rw [e11]; exact t6
  refine x_get (v := .int (fI h10 x0 3191)) fdX12_1186 dX12_link_73 t12 rfl ?_
  refine x_iconst (v := 1) dX12_link_76 (by decide) ?_
  refine x_iadd dX12_link_77 ?_
  obtain ⟨h13, e14⟩ : ∃ y, y = sI h10 x0 3191 ((fI h10 x0 3191) + 1) := ⟨_, rfl⟩
  replace hq := hq h13 e14
  refine x_putI fdX12_1186 xty_I1 dX12_link_78 t12 (Or.inl (by rw [t12]; rfl)) xnI rfl e14 ?_
  refine x_iload_n 2 dX12_link_81 rfl ?_
  exact x_iret rfl rfl dX12_link_82 hq
set_option maxRecDepth 100000 in
def bX12_link (G : xG) (fr lo : Nat) (x0 : Nat) (x1 : Int32) (h : xH) (Q : Outcome → xH → Prop) : Prop := tg h x0 = 13 ∧ tg h (fR h x0 3196) = 100 ∧ vp_in (fI h x0 3197) (ln h (fR h x0 3196)) ∧ (∀ h4 : xH, h4 = sI h x0 3197 (aI h (fR h x0 3196) (Int32.toNatClampNeg (fI h x0 3197))) → tg h4 (fR h4 x0 3196) = 100 ∧ vp_in (fI h x0 3197) (ln h4 (fR h4 x0 3196)) ∧ (∀ h9 : xH, h9 = tI h4 (fR h4 x0 3196) (Int32.toNatClampNeg (fI h x0 3197)) (-1) → tg h9 (fR h9 x0 3183) = 100 ∧ vp_in x1 (ln h9 (fR h9 x0 3183)) ∧ ((¬ (aI h9 (fR h9 x0 3183) (Int32.toNatClampNeg x1)) = (-1) → tg h9 (fR h9 x0 3184) = 100 ∧ vp_in x1 (ln h9 (fR h9 x0 3184)) ∧ tg h9 (fR h9 x0 3196) = 100 ∧ vp_in (aI h9 (fR h9 x0 3184) (Int32.toNatClampNeg x1)) (ln h9 (fR h9 x0 3196)) ∧ (∀ h19 : xH, h19 = tI h9 (fR h9 x0 3196) (Int32.toNatClampNeg (aI h9 (fR h9 x0 3184) (Int32.toNatClampNeg x1))) (fI h x0 3197) → bX12_link_54 G fr lo x0 x1 (fI h x0 3197) h19 Q)) ∧ ((aI h9 (fR h9 x0 3183) (Int32.toNatClampNeg x1)) = (-1) → vp_in x1 (ln h9 (fR h9 x0 3183)) ∧ (∀ h22 : xH, h22 = tI h9 (fR h9 x0 3183) (Int32.toNatClampNeg x1) (fI h x0 3197) → bX12_link_54 G fr lo x0 x1 (fI h x0 3197) h22 Q)))))
set_option maxRecDepth 100000 in
theorem uX12_link {G : xG} {fr lo : Nat} {x0 : Nat} {x1 : Int32} {h : xH} {Q : Outcome → xH → Prop} (hq : bX12_link G fr lo x0 x1 h Q) : xP G YX12_link fr lo 0 [(0, rv x0), (1, .int x1)] [] h Q := by
  unfold bX12_link at hq
  refine x_aload_n 0 dX12_link_0 rfl ?_
  obtain ⟨g1, hq⟩ := hq
  refine x_get (v := .int (fI h x0 3197)) fdX12_1183 dX12_link_1 g1 rfl ?_
  refine x_istore_n (lv' := [(2, .int (fI h x0 3197)), (0, rv x0), (1, .int x1)]) dX12_link_4 (by decide) rfl ?_
  refine x_aload_n 1 dX12_link_5 rfl ?_
  refine x_aload_n 1 dX12_link_6 rfl ?_
  refine x_get (v := rv (fR h x0 3196)) fdX12_241 dX12_link_7 g1 rfl ?_
  refine x_iload_n 0 dX12_link_10 rfl ?_
  obtain ⟨g2, hq⟩ := hq
  obtain ⟨i3, hq⟩ := hq
  refine x_iald 0 (Or.inl rfl) g2 i3 dX12_link_11 ?_
  obtain ⟨h4, e5⟩ : ∃ y, y = sI h x0 3197 (aI h (fR h x0 3196) (Int32.toNatClampNeg (fI h x0 3197))) := ⟨_, rfl⟩
  replace hq := hq h4 e5
  refine x_putI fdX12_1183 xty_I1 dX12_link_12 g1 (Or.inl (by rw [g1]; rfl)) xnI rfl e5 ?_
  refine x_aload_n 1 dX12_link_15 rfl ?_
  have t6 : tg h4 x0 = 13 := by rw [e5]; exact g1
  refine x_get (v := rv (fR h4 x0 3196)) fdX12_241 dX12_link_16 t6 rfl ?_
  refine x_iload_n 0 dX12_link_19 rfl ?_
  refine x_iconst (v := (-1)) dX12_link_20 (by decide) ?_
  obtain ⟨g7, hq⟩ := hq
  obtain ⟨i8, hq⟩ := hq
  obtain ⟨h9, e10⟩ : ∃ y, y = tI h4 (fR h4 x0 3196) (Int32.toNatClampNeg (fI h x0 3197)) (-1) := ⟨_, rfl⟩
  replace hq := hq h9 e10
  refine x_iast' g7 i8 dX12_link_21 e10 ?_
  refine x_aload_n 1 dX12_link_22 rfl ?_
  have t11 : tg h9 x0 = 13 := by rw [e10]; exact t6
  refine x_get (v := rv (fR h9 x0 3183)) fdX12_207 dX12_link_23 t11 rfl ?_
  refine x_iload_n 2 dX12_link_26 rfl ?_
  obtain ⟨g12, hq⟩ := hq
  obtain ⟨i13, hq⟩ := hq
  refine x_iald 0 (Or.inl rfl) g12 i13 dX12_link_27 ?_
  refine x_iconst (v := (-1)) dX12_link_28 (by decide) ?_
  refine x_icmp_ne (tgt := 42) dX12_link_29 (by decide) (fun c14 => ?_) (fun c14 => ?_)
  · replace hq := hq.1 c14
    refine x_aload_n 1 dX12_link_42 rfl ?_
    refine x_get (v := rv (fR h9 x0 3196)) fdX12_241 dX12_link_43 t11 rfl ?_
    refine x_aload_n 1 dX12_link_46 rfl ?_
    refine x_get (v := rv (fR h9 x0 3184)) fdX12_210 dX12_link_47 t11 rfl ?_
    refine x_iload_n 2 dX12_link_50 rfl ?_
    obtain ⟨g15, hq⟩ := hq
    obtain ⟨i16, hq⟩ := hq
    refine x_iald 0 (Or.inl rfl) g15 i16 dX12_link_51 ?_
    refine x_iload_n 0 dX12_link_52 rfl ?_
    obtain ⟨g17, hq⟩ := hq
    obtain ⟨i18, hq⟩ := hq
    obtain ⟨h19, e20⟩ : ∃ y, y = tI h9 (fR h9 x0 3196) (Int32.toNatClampNeg (aI h9 (fR h9 x0 3184) (Int32.toNatClampNeg x1))) (fI h x0 3197) := ⟨_, rfl⟩
    replace hq := hq h19 e20
    refine x_iast' g17 i18 dX12_link_53 e20 ?_
    refine xP.pick (lv' := [(0, rv x0), (1, .int x1), (2, .int (fI h x0 3197))]) [1, 2, 0] rfl ?_
    exact uX12_link_54 hq
  · replace hq := hq.2 c14
    refine x_aload_n 1 dX12_link_32 rfl ?_
    refine x_get (v := rv (fR h9 x0 3183)) fdX12_207 dX12_link_33 t11 rfl ?_
    refine x_iload_n 2 dX12_link_36 rfl ?_
    refine x_iload_n 0 dX12_link_37 rfl ?_
    obtain ⟨i21, hq⟩ := hq
    obtain ⟨h22, e23⟩ : ∃ y, y = tI h9 (fR h9 x0 3183) (Int32.toNatClampNeg x1) (fI h x0 3197) := ⟨_, rfl⟩
    replace hq := hq h22 e23
    refine x_iast' g12 i21 dX12_link_38 e23 ?_
    refine x_goto (tgt := 54) dX12_link_39 (by decide) ?_
    refine xP.pick (lv' := [(0, rv x0), (1, .int x1), (2, .int (fI h x0 3197))]) [1, 2, 0] rfl ?_
    exact uX12_link_54 hq
theorem rX12_link {G : xG} {fr lo : Nat} {x0 : Nat} {x1 : Int32} {h : xH} {Q : Outcome → xH → Prop} (hq : bX12_link G fr lo x0 x1 h Q) : xR G YX12_link fr lo [rv x0, .int x1] h Q := by
  show xP _ _ _ _ _ (lv_args 0 _) _ _ _
  rw [show lv_args 0 [rv x0, .int x1] = [(0, rv x0), (1, .int x1)] from (xla1 (rv_cat _) (xla1 rfl xla0))]
  exact uX12_link hq
set_option maxRecDepth 100000 in
theorem dX12_reset_0 : decode cX12_reset 0 = .ok (.aload_n 0, 1) := by decide +kernel
set_option maxRecDepth 100000 in
theorem dX12_reset_1 : decode cX12_reset 1 = .ok (.getfield 204, 3) := by decide +kernel
set_option maxRecDepth 100000 in
theorem dX12_reset_4 : decode cX12_reset 4 = .ok (.iload_n 1, 1) := by decide +kernel
set_option maxRecDepth 100000 in
theorem dX12_reset_5 : decode cX12_reset 5 = .ok (.iaload, 1) := by decide +kernel
set_option maxRecDepth 100000 in
theorem dX12_reset_6 : decode cX12_reset 6 = .ok (.ifCond .ne 20, 3) := by decide +kernel
set_option maxRecDepth 100000 in
theorem dX12_reset_9 : decode cX12_reset 9 = .ok (.aload_n 0, 1) := by decide +kernel
set_option maxRecDepth 100000 in
theorem dX12_reset_10 : decode cX12_reset 10 = .ok (.getfield 222, 3) := by decide +kernel
set_option maxRecDepth 100000 in
theorem dX12_reset_13 : decode cX12_reset 13 = .ok (.iload_n 1, 1) := by decide +kernel
set_option maxRecDepth 100000 in
theorem dX12_reset_14 : decode cX12_reset 14 = .ok (.baload, 1) := by decide +kernel
set_option maxRecDepth 100000 in
theorem dX12_reset_15 : decode cX12_reset 15 = .ok (.ifCond .ne 11, 3) := by decide +kernel
set_option maxRecDepth 100000 in
theorem dX12_reset_18 : decode cX12_reset 18 = .ok (.aload_n 0, 1) := by decide +kernel
set_option maxRecDepth 100000 in
theorem dX12_reset_19 : decode cX12_reset 19 = .ok (.bipush 10, 2) := by decide +kernel
set_option maxRecDepth 100000 in
theorem dX12_reset_21 : decode cX12_reset 21 = .ok (.iload_n 2, 1) := by decide +kernel
set_option maxRecDepth 100000 in
theorem dX12_reset_22 : decode cX12_reset 22 = .ok (.invokevirtual 1142, 3) := by decide +kernel
set_option maxRecDepth 100000 in
theorem dX12_reset_25 : decode cX12_reset 25 = .ok (.return_, 1) := by decide +kernel
set_option maxRecDepth 100000 in
theorem dX12_reset_26 : decode cX12_reset 26 = .ok (.aload_n 0, 1) := by decide +kernel
set_option maxRecDepth 100000 in
theorem dX12_reset_27 : decode cX12_reset 27 = .ok (.getfield 225, 3) := by decide +kernel
set_option maxRecDepth 100000 in
theorem dX12_reset_30 : decode cX12_reset 30 = .ok (.iload_n 1, 1) := by decide +kernel
set_option maxRecDepth 100000 in
theorem dX12_reset_31 : decode cX12_reset 31 = .ok (.aaload, 1) := by decide +kernel
set_option maxRecDepth 100000 in
theorem dX12_reset_32 : decode cX12_reset 32 = .ok (.invokevirtual 1040, 3) := by decide +kernel
set_option maxRecDepth 100000 in
theorem dX12_reset_35 : decode cX12_reset 35 = .ok (.ifCond .eq 38, 3) := by decide +kernel
set_option maxRecDepth 100000 in
theorem dX12_reset_38 : decode cX12_reset 38 = .ok (.aload_n 0, 1) := by decide +kernel
set_option maxRecDepth 100000 in
theorem dX12_reset_39 : decode cX12_reset 39 = .ok (.getfield 210, 3) := by decide +kernel
set_option maxRecDepth 100000 in
theorem dX12_reset_42 : decode cX12_reset 42 = .ok (.iload_n 1, 1) := by decide +kernel
set_option maxRecDepth 100000 in
theorem dX12_reset_43 : decode cX12_reset 43 = .ok (.iaload, 1) := by decide +kernel
set_option maxRecDepth 100000 in
theorem dX12_reset_44 : decode cX12_reset 44 = .ok (.iconst (-1), 1) := by decide +kernel
set_option maxRecDepth 100000 in
theorem dX12_reset_45 : decode cX12_reset 45 = .ok (.if_icmp .eq 28, 3) := by decide +kernel
set_option maxRecDepth 100000 in
theorem dX12_reset_48 : decode cX12_reset 48 = .ok (.aload_n 0, 1) := by decide +kernel
set_option maxRecDepth 100000 in
theorem dX12_reset_49 : decode cX12_reset 49 = .ok (.getfield 229, 3) := by decide +kernel
set_option maxRecDepth 100000 in
theorem dX12_reset_52 : decode cX12_reset 52 = .ok (.aload_n 0, 1) := by decide +kernel
set_option maxRecDepth 100000 in
theorem dX12_reset_53 : decode cX12_reset 53 = .ok (.getfield 210, 3) := by decide +kernel
set_option maxRecDepth 100000 in
theorem dX12_reset_56 : decode cX12_reset 56 = .ok (.iload_n 1, 1) := by decide +kernel
set_option maxRecDepth 100000 in
theorem dX12_reset_57 : decode cX12_reset 57 = .ok (.iaload, 1) := by decide +kernel
set_option maxRecDepth 100000 in
theorem dX12_reset_58 : decode cX12_reset 58 = .ok (.laload, 1) := by decide +kernel
set_option maxRecDepth 100000 in
theorem dX12_reset_59 : decode cX12_reset 59 = .ok (.ldc2_w 389, 3) := by decide +kernel
set_option maxRecDepth 100000 in
theorem dX12_reset_62 : decode cX12_reset 62 = .ok (.lcmp, 1) := by decide +kernel
set_option maxRecDepth 100000 in
theorem dX12_reset_63 : decode cX12_reset 63 = .ok (.ifCond .eq 10, 3) := by decide +kernel
set_option maxRecDepth 100000 in
theorem dX12_reset_66 : decode cX12_reset 66 = .ok (.aload_n 0, 1) := by decide +kernel
set_option maxRecDepth 100000 in
theorem dX12_reset_67 : decode cX12_reset 67 = .ok (.iload_n 1, 1) := by decide +kernel
set_option maxRecDepth 100000 in
theorem dX12_reset_68 : decode cX12_reset 68 = .ok (.bipush 10, 2) := by decide +kernel
set_option maxRecDepth 100000 in
theorem dX12_reset_70 : decode cX12_reset 70 = .ok (.invokevirtual 1198, 3) := by decide +kernel
set_option maxRecDepth 100000 in
theorem dX12_reset_73 : decode cX12_reset 73 = .ok (.aload_n 0, 1) := by decide +kernel
set_option maxRecDepth 100000 in
theorem dX12_reset_74 : decode cX12_reset 74 = .ok (.getfield 204, 3) := by decide +kernel
set_option maxRecDepth 100000 in
theorem dX12_reset_77 : decode cX12_reset 77 = .ok (.iload_n 1, 1) := by decide +kernel
set_option maxRecDepth 100000 in
theorem dX12_reset_78 : decode cX12_reset 78 = .ok (.iconst 1, 1) := by decide +kernel
set_option maxRecDepth 100000 in
theorem dX12_reset_79 : decode cX12_reset 79 = .ok (.iastore, 1) := by decide +kernel
set_option maxRecDepth 100000 in
theorem dX12_reset_80 : decode cX12_reset 80 = .ok (.aload_n 0, 1) := by decide +kernel
set_option maxRecDepth 100000 in
theorem dX12_reset_81 : decode cX12_reset 81 = .ok (.getfield 213, 3) := by decide +kernel
set_option maxRecDepth 100000 in
theorem dX12_reset_84 : decode cX12_reset 84 = .ok (.iload_n 1, 1) := by decide +kernel
set_option maxRecDepth 100000 in
theorem dX12_reset_85 : decode cX12_reset 85 = .ok (.aload_n 0, 1) := by decide +kernel
set_option maxRecDepth 100000 in
theorem dX12_reset_86 : decode cX12_reset 86 = .ok (.getfield 207, 3) := by decide +kernel
set_option maxRecDepth 100000 in
theorem dX12_reset_89 : decode cX12_reset 89 = .ok (.iload_n 1, 1) := by decide +kernel
set_option maxRecDepth 100000 in
theorem dX12_reset_90 : decode cX12_reset 90 = .ok (.iaload, 1) := by decide +kernel
set_option maxRecDepth 100000 in
theorem dX12_reset_91 : decode cX12_reset 91 = .ok (.iastore, 1) := by decide +kernel
set_option maxRecDepth 100000 in
theorem dX12_reset_92 : decode cX12_reset 92 = .ok (.aload_n 0, 1) := by decide +kernel
set_option maxRecDepth 100000 in
theorem dX12_reset_93 : decode cX12_reset 93 = .ok (.iload_n 1, 1) := by decide +kernel
set_option maxRecDepth 100000 in
theorem dX12_reset_94 : decode cX12_reset 94 = .ok (.invokevirtual 1201, 3) := by decide +kernel
set_option maxRecDepth 100000 in
theorem dX12_reset_97 : decode cX12_reset 97 = .ok (.return_, 1) := by decide +kernel
set_option maxRecDepth 100000 in
def bX12_reset_73 (G : xG) (fr lo : Nat) (x0 : Nat) (x1 : Int32) (h : xH) (Q : Outcome → xH → Prop) : Prop := tg h x0 = 13 ∧ tg h (fR h x0 3182) = 100 ∧ vp_in x1 (ln h (fR h x0 3182)) ∧ (∀ h4 : xH, h4 = tI h (fR h x0 3182) (Int32.toNatClampNeg x1) 1 → tg h4 (fR h4 x0 3183) = 100 ∧ vp_in x1 (ln h4 (fR h4 x0 3183)) ∧ tg h4 (fR h4 x0 3185) = 100 ∧ vp_in x1 (ln h4 (fR h4 x0 3185)) ∧ (∀ h11 : xH, h11 = tI h4 (fR h4 x0 3185) (Int32.toNatClampNeg x1) (aI h4 (fR h4 x0 3183) (Int32.toNatClampNeg x1)) → 1 ≤ fr ∧ 17 ≤ lo ∧ xRv G YX12_bringBuffer (fr - 1) (lo - 17) [rv x0, .int x1] h11 (fun h16 => xext h11 h16 → Q (.returned none) h16) (fun r h2 => Q (.threw r) h2)))
set_option maxRecDepth 100000 in
theorem uX12_reset_73 {G : xG} {fr lo : Nat} {x0 : Nat} {x1 : Int32} {h : xH} {Q : Outcome → xH → Prop} (hq : bX12_reset_73 G fr lo x0 x1 h Q) : xP G YX12_reset fr lo 73 [(0, rv x0), (1, .int x1)] [] h Q := by
  unfold bX12_reset_73 at hq
  refine x_aload_n 0 dX12_reset_73 rfl ?_
  obtain ⟨g1, hq⟩ := hq
  refine x_get (v := rv (fR h x0 3182)) fdX12_204 dX12_reset_74 g1 rfl ?_
  refine x_iload_n 1 dX12_reset_77 rfl ?_
  refine x_iconst (v := 1) dX12_reset_78 (by decide) ?_
  obtain ⟨g2, hq⟩ := hq
  obtain ⟨i3, hq⟩ := hq
  obtain ⟨h4, e5⟩ : ∃ y, y = tI h (fR h x0 3182) (Int32.toNatClampNeg x1) 1 := ⟨_, rfl⟩
  replace hq := hq h4 e5
  refine x_iast' g2 i3 dX12_reset_79 e5 ?_
  refine x_aload_n 0 dX12_reset_80 rfl ?_
  have t6 : tg h4 x0 = 13 := by rw [e5]; exact g1
  refine x_get (v := rv (fR h4 x0 3185)) fdX12_213 dX12_reset_81 t6 rfl ?_
  refine x_iload_n 1 dX12_reset_84 rfl ?_
  refine x_aload_n 0 dX12_reset_85 rfl ?_
  refine x_get (v := rv (fR h4 x0 3183)) fdX12_207 dX12_reset_86 t6 rfl ?_
  refine x_iload_n 1 dX12_reset_89 rfl ?_
  obtain ⟨g7, hq⟩ := hq
  obtain ⟨i8, hq⟩ := hq
  refine x_iald 0 (Or.inl rfl) g7 i8 dX12_reset_90 ?_
  obtain ⟨g9, hq⟩ := hq
  obtain ⟨i10, hq⟩ := hq
  obtain ⟨h11, e12⟩ : ∃ y, y = tI h4 (fR h4 x0 3185) (Int32.toNatClampNeg x1) (aI h4 (fR h4 x0 3183) (Int32.toNatClampNeg x1)) := ⟨_, rfl⟩
  replace hq := hq h11 e12
  refine x_iast' g9 i10 dX12_reset_91 e12 ?_
  refine x_aload_n 0 dX12_reset_92 rfl ?_
  refine x_iload_n 1 dX12_reset_93 rfl ?_
  have t13 : tg h11 x0 = 13 := by rw [e12]; exact t6
  obtain ⟨g14, g15, hq⟩ := hq
  refine x_callV (Yc := YX12_bringBuffer) (as := [.int x1]) (st := []) q4526 mvX12_bringBuffer t13 rfl dX12_reset_94 (xle (xal1 (rv_cat _) (xal1 rfl xal0)) (by decide)) (xfr g14) (xlo xsw0 (by decide) g15) (xKv hq (fun h16 hq e18 => ?_) (fun _ _ q _ => q))
  replace hq := hq e18
  exact x_vret rfl dX12_reset_97 hq
set_option maxRecDepth 100000 in
def bX12_reset_26 (G : xG) (fr lo : Nat) (x0 : Nat) (x1 : Int32) (h : xH) (Q : Outcome → xH → Prop) : Prop := tg h x0 = 13 ∧ tg h (fR h x0 3189) = 108 ∧ vp_in x1 (ln h (fR h x0 3189)) ∧ tg h (aR h (fR h x0 3189) (Int32.toNatClampNeg x1)) = 14 ∧ 1 ≤ fr ∧ 12 ≤ lo ∧ xRi G YX13_isText (fr - 1) (lo - 12) [rv (aR h (fR h x0 3189) (Int32.toNatClampNeg x1))] h (fun x8 h7 => xext h h7 → ((x8 = 0 → bX12_reset_73 G fr lo x0 x1 h7 Q) ∧ (¬ x8 = 0 → tg h7 (fR h7 x0 3184) = 100 ∧ vp_in x1 (ln h7 (fR h7 x0 3184)) ∧ (((aI h7 (fR h7 x0 3184) (Int32.toNatClampNeg x1)) = (-1) → bX12_reset_73 G fr lo x0 x1 h7 Q) ∧ (¬ (aI h7 (fR h7 x0 3184) (Int32.toNatClampNeg x1)) = (-1) → vp_in x1 (ln h7 (fR h7 x0 3184)) ∧ tg h7 (fR h7 x0 3192) = 101 ∧ vp_in (aI h7 (fR h7 x0 3184) (Int32.toNatClampNeg x1)) (ln h7 (fR h7 x0 3192)) ∧ (((lg_cmp (aJ h7 (fR h7 x0 3192) (Int32.toNatClampNeg (aI h7 (fR h7 x0 3184) (Int32.toNatClampNeg x1)))) 10) = 0 → bX12_reset_73 G fr lo x0 x1 h7 Q) ∧ (¬ (lg_cmp (aJ h7 (fR h7 x0 3192) (Int32.toNatClampNeg (aI h7 (fR h7 x0 3184) (Int32.toNatClampNeg x1)))) 10) = 0 → 1 ≤ fr ∧ 15 ≤ lo ∧ xRv G YX12_linkByte (fr - 1) (lo - 15) [rv x0, .int x1, .int 10] h7 (fun h21 => xext h7 h21 → bX12_reset_73 G fr lo x0 x1 h21 Q) (fun r h2 => Q (.threw r) h2)))))))) (fun r h2 => Q (.threw r) h2)
set_option maxRecDepth 100000 in
theorem uX12_reset_26 {G : xG} {fr lo : Nat} {x0 : Nat} {x1 : Int32} {h : xH} {Q : Outcome → xH → Prop} (hq : bX12_reset_26 G fr lo x0 x1 h Q) : xP G YX12_reset fr lo 26 [(0, rv x0), (1, .int x1)] [] h Q := by
  unfold bX12_reset_26 at hq
  refine x_aload_n 0 dX12_reset_26 rfl ?_
  obtain ⟨g1, hq⟩ := hq
  refine x_get (v := rv (fR h x0 3189)) fdX12_225 dX12_reset_27 g1 rfl ?_
  refine x_iload_n 1 dX12_reset_30 rfl ?_
  obtain ⟨g2, hq⟩ := hq
  obtain ⟨i3, hq⟩ := hq
  refine x_aald 8 rfl g2 (by decide) i3 dX12_reset_31 ?_
  obtain ⟨g4, hq⟩ := hq
  obtain ⟨g5, g6, hq⟩ := hq
  refine x_callV (Yc := YX13_isText) (as := []) (st := []) q4352 mvX13_isText g4 rfl dX12_reset_32 (xle (xal1 (rv_cat _) xal0) (by decide)) (xfr g5) (xlo xsw0 (by decide) g6) (xKi hq (fun x8 h7 hq e9 => ?_) (fun _ _ q _ => q))
  replace hq := hq e9
  refine x_if_eq (tgt := 73) dX12_reset_35 (by decide) (fun c10 => ?_) (fun c10 => ?_)
  · replace hq := hq.1 c10
    exact uX12_reset_73 hq
  · replace hq := hq.2 c10
    refine x_aload_n 0 dX12_reset_38 rfl ?_
    have t11 : tg h7 x0 = 13 := e9.tg g1 (by decide)
    refine x_get (v := rv (fR h7 x0 3184)) fdX12_210 dX12_reset_39 t11 rfl ?_
    refine x_iload_n 1 dX12_reset_42 rfl ?_
    obtain ⟨g12, hq⟩ := hq
    obtain ⟨i13, hq⟩ := hq
    refine x_iald 0 (Or.inl rfl) g12 i13 dX12_reset_43 ?_
    refine x_iconst (v := (-1)) dX12_reset_44 (by decide) ?_
    refine x_icmp_eq (tgt := 73) dX12_reset_45 (by decide) (fun c14 => ?_) (fun c14 => ?_)
    · replace hq := hq.1 c14
      exact uX12_reset_73 hq
    · replace hq := hq.2 c14
      refine x_aload_n 0 dX12_reset_48 rfl ?_
      refine x_get (v := rv (fR h7 x0 3192)) fdX12_229 dX12_reset_49 t11 rfl ?_
      refine x_aload_n 0 dX12_reset_52 rfl ?_
      refine x_get (v := rv (fR h7 x0 3184)) fdX12_210 dX12_reset_53 t11 rfl ?_
      refine x_iload_n 1 dX12_reset_56 rfl ?_
      obtain ⟨i15, hq⟩ := hq
      refine x_iald 0 (Or.inl rfl) g12 i15 dX12_reset_57 ?_
      obtain ⟨g16, hq⟩ := hq
      obtain ⟨i17, hq⟩ := hq
      refine x_lald g16 i17 dX12_reset_58 ?_
      refine x_ldc2 (v := 10) q3750 dX12_reset_59 ?_
      refine x_lcmp dX12_reset_62 ?_
      refine x_if_eq (tgt := 73) dX12_reset_63 (by decide) (fun c18 => ?_) (fun c18 => ?_)
      · replace hq := hq.1 c18
        exact uX12_reset_73 hq
      · replace hq := hq.2 c18
        refine x_aload_n 0 dX12_reset_66 rfl ?_
        refine x_iload_n 1 dX12_reset_67 rfl ?_
        refine x_bipush (v := 10) dX12_reset_68 (by decide) ?_
        obtain ⟨g19, g20, hq⟩ := hq
        refine x_callV (Yc := YX12_linkByte) (as := [.int x1, .int 10]) (st := []) q4514 mvX12_linkByte t11 rfl dX12_reset_70 (xle (xal1 (rv_cat _) (xal1 rfl (xal1 rfl xal0))) (by decide)) (xfr g19) (xlo xsw0 (by decide) g20) (xKv hq (fun h21 hq e23 => ?_) (fun _ _ q _ => q))
        replace hq := hq e23
        exact uX12_reset_73 hq
set_option maxRecDepth 100000 in
def bX12_reset (G : xG) (fr lo : Nat) (x0 : Nat) (x1 : Int32) (x2 : Int32) (h : xH) (Q : Outcome → xH → Prop) : Prop := tg h x0 = 13 ∧ tg h (fR h x0 3182) = 100 ∧ vp_in x1 (ln h (fR h x0 3182)) ∧ ((¬ (aI h (fR h x0 3182) (Int32.toNatClampNeg x1)) = 0 → bX12_reset_26 G fr lo x0 x1 h Q) ∧ ((aI h (fR h x0 3182) (Int32.toNatClampNeg x1)) = 0 → tg h (fR h x0 3188) = 104 ∧ vp_in x1 (ln h (fR h x0 3188)) ∧ ((¬ (aI h (fR h x0 3188) (Int32.toNatClampNeg x1)) = 0 → bX12_reset_26 G fr lo x0 x1 h Q) ∧ ((aI h (fR h x0 3188) (Int32.toNatClampNeg x1)) = 0 → 1 ≤ fr ∧ 14 ≤ lo ∧ xRv G YX12_error (fr - 1) (lo - 14) [rv x0, .int 10, .int x2] h (fun h10 => xext h h10 → Q (.returned none) h10) (fun r h2 => Q (.threw r) h2)))))
set_option maxRecDepth 100000 in
theorem uX12_reset {G : xG} {fr lo : Nat} {x0 : Nat} {x1 : Int32} {x2 : Int32} {h : xH} {Q : Outcome → xH → Prop} (hq : bX12_reset G fr lo x0 x1 x2 h Q) : xP G YX12_reset fr lo 0 [(0, rv x0), (1, .int x1), (2, .int x2)] [] h Q := by
  unfold bX12_reset at hq
  refine x_aload_n 0 dX12_reset_0 rfl ?_
  obtain ⟨g1, hq⟩ := hq
  refine x_get (v := rv (fR h x0 3182)) fdX12_204 dX12_reset_1 g1 rfl ?_
  refine x_iload_n 1 dX12_reset_4 rfl ?_
  obtain ⟨g2, hq⟩ := hq
  obtain ⟨i3, hq⟩ := hq
  refine x_iald 0 (Or.inl rfl) g2 i3 dX12_reset_5 ?_
  refine x_if_ne (tgt := 26) dX12_reset_6 (by decide) (fun c4 => ?_) (fun c4 => ?_)
  · replace hq := hq.1 c4
    refine xP.pick (lv' := [(0, rv x0), (1, .int x1)]) [0, 1] rfl ?_
    exact uX12_reset_26 hq
  · replace hq := hq.2 c4
    refine x_aload_n 0 dX12_reset_9 rfl ?_
    refine x_get (v := rv (fR h x0 3188)) fdX12_222 dX12_reset_10 g1 rfl ?_
    refine x_iload_n 1 dX12_reset_13 rfl ?_
    obtain ⟨g5, hq⟩ := hq
    obtain ⟨i6, hq⟩ := hq
    refine x_zald g5 i6 dX12_reset_14 ?_
    refine x_if_ne (tgt := 26) dX12_reset_15 (by decide) (fun c7 => ?_) (fun c7 => ?_)
    · replace hq := hq.1 c7
      refine xP.pick (lv' := [(0, rv x0), (1, .int x1)]) [0, 1] rfl ?_
      exact uX12_reset_26 hq
    · replace hq := hq.2 c7
      refine x_aload_n 0 dX12_reset_18 rfl ?_
      refine x_bipush (v := 10) dX12_reset_19 (by decide) ?_
      refine x_iload_n 2 dX12_reset_21 rfl ?_
      obtain ⟨g8, g9, hq⟩ := hq
      refine x_callV (Yc := YX12_error) (as := [.int 10, .int x2]) (st := []) q4490 mvX12_error g1 rfl dX12_reset_22 (xle (xal1 (rv_cat _) (xal1 rfl (xal1 rfl xal0))) (by decide)) (xfr g8) (xlo xsw0 (by decide) g9) (xKv hq (fun h10 hq e12 => ?_) (fun _ _ q _ => q))
      replace hq := hq e12
      exact x_vret rfl dX12_reset_25 hq
theorem rX12_reset {G : xG} {fr lo : Nat} {x0 : Nat} {x1 : Int32} {x2 : Int32} {h : xH} {Q : Outcome → xH → Prop} (hq : bX12_reset G fr lo x0 x1 x2 h Q) : xR G YX12_reset fr lo [rv x0, .int x1, .int x2] h Q := by
  show xP _ _ _ _ _ (lv_args 0 _) _ _ _
  rw [show lv_args 0 [rv x0, .int x1, .int x2] = [(0, rv x0), (1, .int x1), (2, .int x2)] from (xla1 (rv_cat _) (xla1 rfl (xla1 rfl xla0)))]
  exact uX12_reset hq
set_option maxRecDepth 100000 in
theorem dX12_bringBuffer_0 : decode cX12_bringBuffer 0 = .ok (.aload_n 0, 1) := by decide +kernel
set_option maxRecDepth 100000 in
theorem dX12_bringBuffer_1 : decode cX12_bringBuffer 1 = .ok (.getfield 225, 3) := by decide +kernel
set_option maxRecDepth 100000 in
theorem dX12_bringBuffer_4 : decode cX12_bringBuffer 4 = .ok (.iload_n 1, 1) := by decide +kernel
set_option maxRecDepth 100000 in
theorem dX12_bringBuffer_5 : decode cX12_bringBuffer 5 = .ok (.aaload, 1) := by decide +kernel
set_option maxRecDepth 100000 in
theorem dX12_bringBuffer_6 : decode cX12_bringBuffer 6 = .ok (.astore_n 2, 1) := by decide +kernel
set_option maxRecDepth 100000 in
theorem dX12_bringBuffer_7 : decode cX12_bringBuffer 7 = .ok (.aload_n 0, 1) := by decide +kernel
set_option maxRecDepth 100000 in
theorem dX12_bringBuffer_8 : decode cX12_bringBuffer 8 = .ok (.getfield 219, 3) := by decide +kernel
set_option maxRecDepth 100000 in
theorem dX12_bringBuffer_11 : decode cX12_bringBuffer 11 = .ok (.iload_n 1, 1) := by decide +kernel
set_option maxRecDepth 100000 in
theorem dX12_bringBuffer_12 : decode cX12_bringBuffer 12 = .ok (.iaload, 1) := by decide +kernel
set_option maxRecDepth 100000 in
theorem dX12_bringBuffer_13 : decode cX12_bringBuffer 13 = .ok (.iconst 1, 1) := by decide +kernel
set_option maxRecDepth 100000 in
theorem dX12_bringBuffer_14 : decode cX12_bringBuffer 14 = .ok (.iadd, 1) := by decide +kernel
set_option maxRecDepth 100000 in
theorem dX12_bringBuffer_15 : decode cX12_bringBuffer 15 = .ok (.istore_n 3, 1) := by decide +kernel
set_option maxRecDepth 100000 in
theorem dX12_bringBuffer_16 : decode cX12_bringBuffer 16 = .ok (.aload_n 0, 1) := by decide +kernel
set_option maxRecDepth 100000 in
theorem dX12_bringBuffer_17 : decode cX12_bringBuffer 17 = .ok (.getfield 213, 3) := by decide +kernel
set_option maxRecDepth 100000 in
theorem dX12_bringBuffer_20 : decode cX12_bringBuffer 20 = .ok (.iload_n 1, 1) := by decide +kernel
set_option maxRecDepth 100000 in
theorem dX12_bringBuffer_21 : decode cX12_bringBuffer 21 = .ok (.iaload, 1) := by decide +kernel
set_option maxRecDepth 100000 in
theorem dX12_bringBuffer_22 : decode cX12_bringBuffer 22 = .ok (.istore 4, 2) := by decide +kernel
set_option maxRecDepth 100000 in
theorem dX12_bringBuffer_24 : decode cX12_bringBuffer 24 = .ok (.aload_n 0, 1) := by decide +kernel
set_option maxRecDepth 100000 in
theorem dX12_bringBuffer_25 : decode cX12_bringBuffer 25 = .ok (.getfield 204, 3) := by decide +kernel
set_option maxRecDepth 100000 in
theorem dX12_bringBuffer_28 : decode cX12_bringBuffer 28 = .ok (.iload_n 1, 1) := by decide +kernel
set_option maxRecDepth 100000 in
theorem dX12_bringBuffer_29 : decode cX12_bringBuffer 29 = .ok (.iaload, 1) := by decide +kernel
set_option maxRecDepth 100000 in
theorem dX12_bringBuffer_30 : decode cX12_bringBuffer 30 = .ok (.iconst 1, 1) := by decide +kernel
set_option maxRecDepth 100000 in
theorem dX12_bringBuffer_31 : decode cX12_bringBuffer 31 = .ok (.if_icmp .ne 9, 3) := by decide +kernel
set_option maxRecDepth 100000 in
theorem dX12_bringBuffer_34 : decode cX12_bringBuffer 34 = .ok (.iload 4, 2) := by decide +kernel
set_option maxRecDepth 100000 in
theorem dX12_bringBuffer_36 : decode cX12_bringBuffer 36 = .ok (.iconst (-1), 1) := by decide +kernel
set_option maxRecDepth 100000 in
theorem dX12_bringBuffer_37 : decode cX12_bringBuffer 37 = .ok (.if_icmp .ne 19, 3) := by decide +kernel
set_option maxRecDepth 100000 in
theorem dX12_bringBuffer_40 : decode cX12_bringBuffer 40 = .ok (.aload_n 0, 1) := by decide +kernel
set_option maxRecDepth 100000 in
theorem dX12_bringBuffer_41 : decode cX12_bringBuffer 41 = .ok (.iload_n 3, 1) := by decide +kernel
set_option maxRecDepth 100000 in
theorem dX12_bringBuffer_42 : decode cX12_bringBuffer 42 = .ok (.iload_n 3, 1) := by decide +kernel
set_option maxRecDepth 100000 in
theorem dX12_bringBuffer_43 : decode cX12_bringBuffer 43 = .ok (.aload_n 2, 1) := by decide +kernel
set_option maxRecDepth 100000 in
theorem dX12_bringBuffer_44 : decode cX12_bringBuffer 44 = .ok (.getfield 598, 3) := by decide +kernel
set_option maxRecDepth 100000 in
theorem dX12_bringBuffer_47 : decode cX12_bringBuffer 47 = .ok (.getfield 603, 3) := by decide +kernel
set_option maxRecDepth 100000 in
theorem dX12_bringBuffer_50 : decode cX12_bringBuffer 50 = .ok (.l2i, 1) := by decide +kernel
set_option maxRecDepth 100000 in
theorem dX12_bringBuffer_51 : decode cX12_bringBuffer 51 = .ok (.iadd, 1) := by decide +kernel
set_option maxRecDepth 100000 in
theorem dX12_bringBuffer_52 : decode cX12_bringBuffer 52 = .ok (.invokevirtual 1178, 3) := by decide +kernel
set_option maxRecDepth 100000 in
theorem dX12_bringBuffer_55 : decode cX12_bringBuffer 55 = .ok (.return_, 1) := by decide +kernel
set_option maxRecDepth 100000 in
theorem dX12_bringBuffer_56 : decode cX12_bringBuffer 56 = .ok (.iconst 0, 1) := by decide +kernel
set_option maxRecDepth 100000 in
theorem dX12_bringBuffer_57 : decode cX12_bringBuffer 57 = .ok (.istore 5, 2) := by decide +kernel
set_option maxRecDepth 100000 in
theorem dX12_bringBuffer_59 : decode cX12_bringBuffer 59 = .ok (.iload 5, 2) := by decide +kernel
set_option maxRecDepth 100000 in
theorem dX12_bringBuffer_61 : decode cX12_bringBuffer 61 = .ok (.i2l, 1) := by decide +kernel
set_option maxRecDepth 100000 in
theorem dX12_bringBuffer_62 : decode cX12_bringBuffer 62 = .ok (.aload_n 2, 1) := by decide +kernel
set_option maxRecDepth 100000 in
theorem dX12_bringBuffer_63 : decode cX12_bringBuffer 63 = .ok (.getfield 598, 3) := by decide +kernel
set_option maxRecDepth 100000 in
theorem dX12_bringBuffer_66 : decode cX12_bringBuffer 66 = .ok (.getfield 603, 3) := by decide +kernel
set_option maxRecDepth 100000 in
theorem dX12_bringBuffer_69 : decode cX12_bringBuffer 69 = .ok (.lcmp, 1) := by decide +kernel
set_option maxRecDepth 100000 in
theorem dX12_bringBuffer_70 : decode cX12_bringBuffer 70 = .ok (.ifCond .ge 82, 3) := by decide +kernel
set_option maxRecDepth 100000 in
theorem dX12_bringBuffer_73 : decode cX12_bringBuffer 73 = .ok (.aload_n 0, 1) := by decide +kernel
set_option maxRecDepth 100000 in
theorem dX12_bringBuffer_74 : decode cX12_bringBuffer 74 = .ok (.getfield 159, 3) := by decide +kernel
set_option maxRecDepth 100000 in
theorem dX12_bringBuffer_77 : decode cX12_bringBuffer 77 = .ok (.iload_n 3, 1) := by decide +kernel
set_option maxRecDepth 100000 in
theorem dX12_bringBuffer_78 : decode cX12_bringBuffer 78 = .ok (.iload 5, 2) := by decide +kernel
set_option maxRecDepth 100000 in
theorem dX12_bringBuffer_80 : decode cX12_bringBuffer 80 = .ok (.iadd, 1) := by decide +kernel
set_option maxRecDepth 100000 in
theorem dX12_bringBuffer_81 : decode cX12_bringBuffer 81 = .ok (.aload_n 0, 1) := by decide +kernel
set_option maxRecDepth 100000 in
theorem dX12_bringBuffer_82 : decode cX12_bringBuffer 82 = .ok (.getfield 229, 3) := by decide +kernel
set_option maxRecDepth 100000 in
theorem dX12_bringBuffer_85 : decode cX12_bringBuffer 85 = .ok (.iload 4, 2) := by decide +kernel
set_option maxRecDepth 100000 in
theorem dX12_bringBuffer_87 : decode cX12_bringBuffer 87 = .ok (.laload, 1) := by decide +kernel
set_option maxRecDepth 100000 in
theorem dX12_bringBuffer_88 : decode cX12_bringBuffer 88 = .ok (.lastore, 1) := by decide +kernel
set_option maxRecDepth 100000 in
theorem dX12_bringBuffer_89 : decode cX12_bringBuffer 89 = .ok (.aload_n 0, 1) := by decide +kernel
set_option maxRecDepth 100000 in
theorem dX12_bringBuffer_90 : decode cX12_bringBuffer 90 = .ok (.getfield 163, 3) := by decide +kernel
set_option maxRecDepth 100000 in
theorem dX12_bringBuffer_93 : decode cX12_bringBuffer 93 = .ok (.iload_n 3, 1) := by decide +kernel
set_option maxRecDepth 100000 in
theorem dX12_bringBuffer_94 : decode cX12_bringBuffer 94 = .ok (.iload 5, 2) := by decide +kernel
set_option maxRecDepth 100000 in
theorem dX12_bringBuffer_96 : decode cX12_bringBuffer 96 = .ok (.iadd, 1) := by decide +kernel
set_option maxRecDepth 100000 in
theorem dX12_bringBuffer_97 : decode cX12_bringBuffer 97 = .ok (.aload_n 0, 1) := by decide +kernel
set_option maxRecDepth 100000 in
theorem dX12_bringBuffer_98 : decode cX12_bringBuffer 98 = .ok (.getfield 232, 3) := by decide +kernel
set_option maxRecDepth 100000 in
theorem dX12_bringBuffer_101 : decode cX12_bringBuffer 101 = .ok (.iload 4, 2) := by decide +kernel
set_option maxRecDepth 100000 in
theorem dX12_bringBuffer_103 : decode cX12_bringBuffer 103 = .ok (.laload, 1) := by decide +kernel
set_option maxRecDepth 100000 in
theorem dX12_bringBuffer_104 : decode cX12_bringBuffer 104 = .ok (.lastore, 1) := by decide +kernel
set_option maxRecDepth 100000 in
theorem dX12_bringBuffer_105 : decode cX12_bringBuffer 105 = .ok (.aload_n 0, 1) := by decide +kernel
set_option maxRecDepth 100000 in
theorem dX12_bringBuffer_106 : decode cX12_bringBuffer 106 = .ok (.getfield 166, 3) := by decide +kernel
set_option maxRecDepth 100000 in
theorem dX12_bringBuffer_109 : decode cX12_bringBuffer 109 = .ok (.iload_n 3, 1) := by decide +kernel
set_option maxRecDepth 100000 in
theorem dX12_bringBuffer_110 : decode cX12_bringBuffer 110 = .ok (.iload 5, 2) := by decide +kernel
set_option maxRecDepth 100000 in
theorem dX12_bringBuffer_112 : decode cX12_bringBuffer 112 = .ok (.iadd, 1) := by decide +kernel
set_option maxRecDepth 100000 in
theorem dX12_bringBuffer_113 : decode cX12_bringBuffer 113 = .ok (.aload_n 0, 1) := by decide +kernel
set_option maxRecDepth 100000 in
theorem dX12_bringBuffer_114 : decode cX12_bringBuffer 114 = .ok (.getfield 235, 3) := by decide +kernel
set_option maxRecDepth 100000 in
theorem dX12_bringBuffer_117 : decode cX12_bringBuffer 117 = .ok (.iload 4, 2) := by decide +kernel
set_option maxRecDepth 100000 in
theorem dX12_bringBuffer_119 : decode cX12_bringBuffer 119 = .ok (.daload, 1) := by decide +kernel
set_option maxRecDepth 100000 in
theorem dX12_bringBuffer_120 : decode cX12_bringBuffer 120 = .ok (.dastore, 1) := by decide +kernel
set_option maxRecDepth 100000 in
theorem dX12_bringBuffer_121 : decode cX12_bringBuffer 121 = .ok (.aload_n 0, 1) := by decide +kernel
set_option maxRecDepth 100000 in
theorem dX12_bringBuffer_122 : decode cX12_bringBuffer 122 = .ok (.getfield 169, 3) := by decide +kernel
set_option maxRecDepth 100000 in
theorem dX12_bringBuffer_125 : decode cX12_bringBuffer 125 = .ok (.iload_n 3, 1) := by decide +kernel
set_option maxRecDepth 100000 in
theorem dX12_bringBuffer_126 : decode cX12_bringBuffer 126 = .ok (.iload 5, 2) := by decide +kernel
set_option maxRecDepth 100000 in
theorem dX12_bringBuffer_128 : decode cX12_bringBuffer 128 = .ok (.iadd, 1) := by decide +kernel
set_option maxRecDepth 100000 in
theorem dX12_bringBuffer_129 : decode cX12_bringBuffer 129 = .ok (.aload_n 0, 1) := by decide +kernel
set_option maxRecDepth 100000 in
theorem dX12_bringBuffer_130 : decode cX12_bringBuffer 130 = .ok (.getfield 238, 3) := by decide +kernel
set_option maxRecDepth 100000 in
theorem dX12_bringBuffer_133 : decode cX12_bringBuffer 133 = .ok (.iload 4, 2) := by decide +kernel
set_option maxRecDepth 100000 in
theorem dX12_bringBuffer_135 : decode cX12_bringBuffer 135 = .ok (.baload, 1) := by decide +kernel
set_option maxRecDepth 100000 in
theorem dX12_bringBuffer_136 : decode cX12_bringBuffer 136 = .ok (.bastore, 1) := by decide +kernel
set_option maxRecDepth 100000 in
theorem dX12_bringBuffer_137 : decode cX12_bringBuffer 137 = .ok (.aload_n 0, 1) := by decide +kernel
set_option maxRecDepth 100000 in
theorem dX12_bringBuffer_138 : decode cX12_bringBuffer 138 = .ok (.getfield 241, 3) := by decide +kernel
set_option maxRecDepth 100000 in
theorem dX12_bringBuffer_141 : decode cX12_bringBuffer 141 = .ok (.iload 4, 2) := by decide +kernel
set_option maxRecDepth 100000 in
theorem dX12_bringBuffer_143 : decode cX12_bringBuffer 143 = .ok (.iaload, 1) := by decide +kernel
set_option maxRecDepth 100000 in
theorem dX12_bringBuffer_144 : decode cX12_bringBuffer 144 = .ok (.istore 4, 2) := by decide +kernel
set_option maxRecDepth 100000 in
theorem dX12_bringBuffer_146 : decode cX12_bringBuffer 146 = .ok (.iinc 5 1, 3) := by decide +kernel
set_option maxRecDepth 100000 in
theorem dX12_bringBuffer_149 : decode cX12_bringBuffer 149 = .ok (.goto (-90), 3) := by decide +kernel
set_option maxRecDepth 100000 in
theorem dX12_bringBuffer_152 : decode cX12_bringBuffer 152 = .ok (.aload_n 2, 1) := by decide +kernel
set_option maxRecDepth 100000 in
theorem dX12_bringBuffer_153 : decode cX12_bringBuffer 153 = .ok (.invokevirtual 1040, 3) := by decide +kernel
set_option maxRecDepth 100000 in
theorem dX12_bringBuffer_156 : decode cX12_bringBuffer 156 = .ok (.ifCond .eq 25, 3) := by decide +kernel
set_option maxRecDepth 100000 in
theorem dX12_bringBuffer_159 : decode cX12_bringBuffer 159 = .ok (.aload_n 0, 1) := by decide +kernel
set_option maxRecDepth 100000 in
theorem dX12_bringBuffer_160 : decode cX12_bringBuffer 160 = .ok (.getfield 159, 3) := by decide +kernel
set_option maxRecDepth 100000 in
theorem dX12_bringBuffer_163 : decode cX12_bringBuffer 163 = .ok (.iload_n 3, 1) := by decide +kernel
set_option maxRecDepth 100000 in
theorem dX12_bringBuffer_164 : decode cX12_bringBuffer 164 = .ok (.laload, 1) := by decide +kernel
set_option maxRecDepth 100000 in
theorem dX12_bringBuffer_165 : decode cX12_bringBuffer 165 = .ok (.ldc2_w 389, 3) := by decide +kernel
set_option maxRecDepth 100000 in
theorem dX12_bringBuffer_168 : decode cX12_bringBuffer 168 = .ok (.lcmp, 1) := by decide +kernel
set_option maxRecDepth 100000 in
theorem dX12_bringBuffer_169 : decode cX12_bringBuffer 169 = .ok (.ifCond .ne 12, 3) := by decide +kernel
set_option maxRecDepth 100000 in
theorem dX12_bringBuffer_172 : decode cX12_bringBuffer 172 = .ok (.aload_n 0, 1) := by decide +kernel
set_option maxRecDepth 100000 in
theorem dX12_bringBuffer_173 : decode cX12_bringBuffer 173 = .ok (.getfield 159, 3) := by decide +kernel
set_option maxRecDepth 100000 in
theorem dX12_bringBuffer_176 : decode cX12_bringBuffer 176 = .ok (.iload_n 3, 1) := by decide +kernel
set_option maxRecDepth 100000 in
theorem dX12_bringBuffer_177 : decode cX12_bringBuffer 177 = .ok (.ldc2_w 1192, 3) := by decide +kernel
set_option maxRecDepth 100000 in
theorem dX12_bringBuffer_180 : decode cX12_bringBuffer 180 = .ok (.lastore, 1) := by decide +kernel
set_option maxRecDepth 100000 in
theorem dX12_bringBuffer_181 : decode cX12_bringBuffer 181 = .ok (.return_, 1) := by decide +kernel
def lX12_bringBuffer_59 (G : xG) (fr lo : Nat) (x0 : Nat) (x2 : Nat) (x3 : Int32) (x4 : Int32) (x5 : Int32) (h : xH) (Q : Outcome → xH → Prop) : Prop := xP G YX12_bringBuffer fr lo 59 [(0, rv x0), (2, rv x2), (3, .int x3), (4, .int x4), (5, .int x5)] [] h Q
set_option maxRecDepth 100000 in
def bX12_bringBuffer_181 (G : xG) (fr lo : Nat) (h : xH) (Q : Outcome → xH → Prop) : Prop := Q (.returned none) h
set_option maxRecDepth 100000 in
theorem uX12_bringBuffer_181 {G : xG} {fr lo : Nat} {h : xH} {Q : Outcome → xH → Prop} (hq : bX12_bringBuffer_181 G fr lo h Q) : xP G YX12_bringBuffer fr lo 181 [] [] h Q := by
  unfold bX12_bringBuffer_181 at hq
  exact x_vret rfl dX12_bringBuffer_181 hq
set_option maxRecDepth 100000 in
def bX12_bringBuffer_59 (G : xG) (fr lo : Nat) (x0 : Nat) (x2 : Nat) (x3 : Int32) (x4 : Int32) (x5 : Int32) (h : xH) (Q : Outcome → xH → Prop) : Prop := tg h x2 = 14 ∧ tg h (fR h x2 3333) = 14 ∧ ((0 ≤ (lg_cmp (Int32.toInt64 x5) (fJ h (fR h x2 3333) 3334)) → 1 ≤ fr ∧ 12 ≤ lo ∧ xRi G YX13_isText (fr - 1) (lo - 12) [rv x2] h (fun x7 h6 => xext h h6 → ((x7 = 0 → bX12_bringBuffer_181 G fr lo h6 Q) ∧ (¬ x7 = 0 → tg h6 x0 = 13 ∧ tg h6 (fR h6 x0 3147) = 101 ∧ vp_in x3 (ln h6 (fR h6 x0 3147)) ∧ ((¬ (lg_cmp (aJ h6 (fR h6 x0 3147) (Int32.toNatClampNeg x3)) 10) = 0 → bX12_bringBuffer_181 G fr lo h6 Q) ∧ ((lg_cmp (aJ h6 (fR h6 x0 3147) (Int32.toNatClampNeg x3)) 10) = 0 → vp_in x3 (ln h6 (fR h6 x0 3147)) ∧ (∀ h15 : xH, h15 = tJ h6 (fR h6 x0 3147) (Int32.toNatClampNeg x3) 32 → bX12_bringBuffer_181 G fr lo h15 Q)))))) (fun r h2 => Q (.threw r) h2)) ∧ (¬ 0 ≤ (lg_cmp (Int32.toInt64 x5) (fJ h (fR h x2 3333) 3334)) → tg h x0 = 13 ∧ tg h (fR h x0 3192) = 101 ∧ vp_in x4 (ln h (fR h x0 3192)) ∧ tg h (fR h x0 3147) = 101 ∧ vp_in (x3 + x5) (ln h (fR h x0 3147)) ∧ (∀ h22 : xH, h22 = tJ h (fR h x0 3147) (Int32.toNatClampNeg (x3 + x5)) (aJ h (fR h x0 3192) (Int32.toNatClampNeg x4)) → tg h22 (fR h22 x0 3193) = 101 ∧ vp_in x4 (ln h22 (fR h22 x0 3193)) ∧ tg h22 (fR h22 x0 3148) = 101 ∧ vp_in (x3 + x5) (ln h22 (fR h22 x0 3148)) ∧ (∀ h29 : xH, h29 = tJ h22 (fR h22 x0 3148) (Int32.toNatClampNeg (x3 + x5)) (aJ h22 (fR h22 x0 3193) (Int32.toNatClampNeg x4)) → tg h29 (fR h29 x0 3194) = 102 ∧ vp_in x4 (ln h29 (fR h29 x0 3194)) ∧ tg h29 (fR h29 x0 3149) = 102 ∧ vp_in (x3 + x5) (ln h29 (fR h29 x0 3149)) ∧ (∀ h36 : xH, h36 = tD h29 (fR h29 x0 3149) (Int32.toNatClampNeg (x3 + x5)) (aD h29 (fR h29 x0 3194) (Int32.toNatClampNeg x4)) → tg h36 (fR h36 x0 3195) = 104 ∧ vp_in x4 (ln h36 (fR h36 x0 3195)) ∧ tg h36 (fR h36 x0 3150) = 104 ∧ vp_in (x3 + x5) (ln h36 (fR h36 x0 3150)) ∧ (∀ h43 : xH, h43 = tI h36 (fR h36 x0 3150) (Int32.toNatClampNeg (x3 + x5)) (vp_nar .boolean (aI h36 (fR h36 x0 3195) (Int32.toNatClampNeg x4))) → tg h43 (fR h43 x0 3196) = 100 ∧ vp_in x4 (ln h43 (fR h43 x0 3196)) ∧ lX12_bringBuffer_59 G fr lo x0 x2 x3 (aI h43 (fR h43 x0 3196) (Int32.toNatClampNeg x4)) (x5 + 1) h43 Q))))))
set_option maxRecDepth 100000 in
theorem uX12_bringBuffer_59 {G : xG} {fr lo : Nat} {x0 : Nat} {x2 : Nat} {x3 : Int32} {x4 : Int32} {x5 : Int32} {h : xH} {Q : Outcome → xH → Prop} (hq : bX12_bringBuffer_59 G fr lo x0 x2 x3 x4 x5 h Q) : xP G YX12_bringBuffer fr lo 59 [(0, rv x0), (2, rv x2), (3, .int x3), (4, .int x4), (5, .int x5)] [] h Q := by
  unfold bX12_bringBuffer_59 at hq
  refine x_iload 4 dX12_bringBuffer_59 rfl ?_
  refine x_i2l dX12_bringBuffer_61 ?_
  refine x_aload_n 1 dX12_bringBuffer_62 rfl ?_
  obtain ⟨g1, hq⟩ := hq
  refine x_get (v := rv (fR h x2 3333)) fdX12_598 dX12_bringBuffer_63 g1 rfl ?_
  obtain ⟨g2, hq⟩ := hq
  refine x_get (v := .long (fJ h (fR h x2 3333) 3334)) fdX12_603 dX12_bringBuffer_66 g2 rfl ?_
  refine x_lcmp dX12_bringBuffer_69 ?_
  refine x_if_ge (tgt := 152) dX12_bringBuffer_70 (by decide) (fun c3 => ?_) (fun c3 => ?_)
  · replace hq := hq.1 c3
    refine x_aload_n 1 dX12_bringBuffer_152 rfl ?_
    obtain ⟨g4, g5, hq⟩ := hq
    refine x_callV (Yc := YX13_isText) (as := []) (st := []) q4352 mvX13_isText g1 rfl dX12_bringBuffer_153 (xle (xal1 (rv_cat _) xal0) (by decide)) (xfr g4) (xlo xsw0 (by decide) g5) (xKi hq (fun x7 h6 hq e8 => ?_) (fun _ _ q _ => q))
    replace hq := hq e8
    refine x_if_eq (tgt := 181) dX12_bringBuffer_156 (by decide) (fun c9 => ?_) (fun c9 => ?_)
    · replace hq := hq.1 c9
      refine xP.pick (lv' := []) [] rfl ?_
      exact uX12_bringBuffer_181 hq
    · replace hq := hq.2 c9
      refine x_aload_n 0 dX12_bringBuffer_159 rfl ?_
      obtain ⟨g10, hq⟩ := hq
      refine x_get (v := rv (fR h6 x0 3147)) fdX12_159 dX12_bringBuffer_160 g10 rfl ?_
      refine x_iload_n 2 dX12_bringBuffer_163 rfl ?_
      obtain ⟨g11, hq⟩ := hq
      obtain ⟨i12, hq⟩ := hq
      refine x_lald g11 i12 dX12_bringBuffer_164 ?_
      refine x_ldc2 (v := 10) q3750 dX12_bringBuffer_165 ?_
      refine x_lcmp dX12_bringBuffer_168 ?_
      refine x_if_ne (tgt := 181) dX12_bringBuffer_169 (by decide) (fun c13 => ?_) (fun c13 => ?_)
      · replace hq := hq.1 c13
        refine xP.pick (lv' := []) [] rfl ?_
        exact uX12_bringBuffer_181 hq
      · replace hq := hq.2 c13
        refine x_aload_n 0 dX12_bringBuffer_172 rfl ?_
        refine x_get (v := rv (fR h6 x0 3147)) fdX12_159 dX12_bringBuffer_173 g10 rfl ?_
        refine x_iload_n 2 dX12_bringBuffer_176 rfl ?_
        refine x_ldc2 (v := 32) q4530 dX12_bringBuffer_177 ?_
        obtain ⟨i14, hq⟩ := hq
        obtain ⟨h15, e16⟩ : ∃ y, y = tJ h6 (fR h6 x0 3147) (Int32.toNatClampNeg x3) 32 := ⟨_, rfl⟩
        replace hq := hq h15 e16
        refine x_last' g11 i14 dX12_bringBuffer_180 e16 ?_
        refine xP.pick (lv' := []) [] rfl ?_
        exact uX12_bringBuffer_181 hq
  · replace hq := hq.2 c3
    refine x_aload_n 0 dX12_bringBuffer_73 rfl ?_
    obtain ⟨g17, hq⟩ := hq
    refine x_get (v := rv (fR h x0 3147)) fdX12_159 dX12_bringBuffer_74 g17 rfl ?_
    refine x_iload_n 2 dX12_bringBuffer_77 rfl ?_
    refine x_iload 4 dX12_bringBuffer_78 rfl ?_
    refine x_iadd dX12_bringBuffer_80 ?_
    refine x_aload_n 0 dX12_bringBuffer_81 rfl ?_
    refine x_get (v := rv (fR h x0 3192)) fdX12_229 dX12_bringBuffer_82 g17 rfl ?_
    refine x_iload 3 dX12_bringBuffer_85 rfl ?_
    obtain ⟨g18, hq⟩ := hq
    obtain ⟨i19, hq⟩ := hq
    refine x_lald g18 i19 dX12_bringBuffer_87 ?_
    obtain ⟨g20, hq⟩ := hq
    obtain ⟨i21, hq⟩ := hq
    obtain ⟨h22, e23⟩ : ∃ y, y = tJ h (fR h x0 3147) (Int32.toNatClampNeg (x3 + x5)) (aJ h (fR h x0 3192) (Int32.toNatClampNeg x4)) := ⟨_, rfl⟩
    replace hq := hq h22 e23
    refine x_last' g20 i21 dX12_bringBuffer_88 e23 ?_
    refine x_aload_n 0 dX12_bringBuffer_89 rfl ?_
    have t24 : tg h22 x0 = 13 := by rw [e23]; exact g17
    refine x_get (v := rv (fR h22 x0 3148)) fdX12_163 dX12_bringBuffer_90 t24 rfl ?_
    refine x_iload_n 2 dX12_bringBuffer_93 rfl ?_
    refine x_iload 4 dX12_bringBuffer_94 rfl ?_
    refine x_iadd dX12_bringBuffer_96 ?_
    refine x_aload_n 0 dX12_bringBuffer_97 rfl ?_
    refine x_get (v := rv (fR h22 x0 3193)) fdX12_232 dX12_bringBuffer_98 t24 rfl ?_
    refine x_iload 3 dX12_bringBuffer_101 rfl ?_
    obtain ⟨g25, hq⟩ := hq
    obtain ⟨i26, hq⟩ := hq
    refine x_lald g25 i26 dX12_bringBuffer_103 ?_
    obtain ⟨g27, hq⟩ := hq
    obtain ⟨i28, hq⟩ := hq
    obtain ⟨h29, e30⟩ : ∃ y, y = tJ h22 (fR h22 x0 3148) (Int32.toNatClampNeg (x3 + x5)) (aJ h22 (fR h22 x0 3193) (Int32.toNatClampNeg x4)) := ⟨_, rfl⟩
    replace hq := hq h29 e30
    refine x_last' g27 i28 dX12_bringBuffer_104 e30 ?_
    refine x_aload_n 0 dX12_bringBuffer_105 rfl ?_
    have t31 : tg h29 x0 = 13 := by rw [e30]; exact t24
    refine x_get (v := rv (fR h29 x0 3149)) fdX12_166 dX12_bringBuffer_106 t31 rfl ?_
    refine x_iload_n 2 dX12_bringBuffer_109 rfl ?_
    refine x_iload 4 dX12_bringBuffer_110 rfl ?_
    refine x_iadd dX12_bringBuffer_112 ?_
    refine x_aload_n 0 dX12_bringBuffer_113 rfl ?_
    refine x_get (v := rv (fR h29 x0 3194)) fdX12_235 dX12_bringBuffer_114 t31 rfl ?_
    refine x_iload 3 dX12_bringBuffer_117 rfl ?_
    obtain ⟨g32, hq⟩ := hq
    obtain ⟨i33, hq⟩ := hq
    refine x_dald g32 i33 dX12_bringBuffer_119 ?_
    obtain ⟨g34, hq⟩ := hq
    obtain ⟨i35, hq⟩ := hq
    obtain ⟨h36, e37⟩ : ∃ y, y = tD h29 (fR h29 x0 3149) (Int32.toNatClampNeg (x3 + x5)) (aD h29 (fR h29 x0 3194) (Int32.toNatClampNeg x4)) := ⟨_, rfl⟩
    replace hq := hq h36 e37
    refine x_dast' g34 i35 dX12_bringBuffer_120 e37 ?_
    refine x_aload_n 0 dX12_bringBuffer_121 rfl ?_
    have t38 : tg h36 x0 = 13 := by rw [e37]; exact t31
    refine x_get (v := rv (fR h36 x0 3150)) fdX12_169 dX12_bringBuffer_122 t38 rfl ?_
    refine x_iload_n 2 dX12_bringBuffer_125 rfl ?_
    refine x_iload 4 dX12_bringBuffer_126 rfl ?_
    refine x_iadd dX12_bringBuffer_128 ?_
    refine x_aload_n 0 dX12_bringBuffer_129 rfl ?_
    refine x_get (v := rv (fR h36 x0 3195)) fdX12_238 dX12_bringBuffer_130 t38 rfl ?_
    refine x_iload 3 dX12_bringBuffer_133 rfl ?_
    obtain ⟨g39, hq⟩ := hq
    obtain ⟨i40, hq⟩ := hq
    refine x_zald g39 i40 dX12_bringBuffer_135 ?_
    obtain ⟨g41, hq⟩ := hq
    obtain ⟨i42, hq⟩ := hq
    obtain ⟨h43, e44⟩ : ∃ y, y = tI h36 (fR h36 x0 3150) (Int32.toNatClampNeg (x3 + x5)) (vp_nar .boolean (aI h36 (fR h36 x0 3195) (Int32.toNatClampNeg x4))) := ⟨_, rfl⟩
    replace hq := hq h43 e44
    refine x_zast' g41 i42 dX12_bringBuffer_136 e44 ?_
    refine x_aload_n 0 dX12_bringBuffer_137 rfl ?_
    have t45 : tg h43 x0 = 13 := by rw [e44]; exact t38
    refine x_get (v := rv (fR h43 x0 3196)) fdX12_241 dX12_bringBuffer_138 t45 rfl ?_
    refine x_iload 3 dX12_bringBuffer_141 rfl ?_
    obtain ⟨g46, hq⟩ := hq
    obtain ⟨i47, hq⟩ := hq
    refine x_iald 0 (Or.inl rfl) g46 i47 dX12_bringBuffer_143 ?_
    refine x_istore (lv' := [(4, .int (aI h43 (fR h43 x0 3196) (Int32.toNatClampNeg x4))), (0, rv x0), (2, rv x2), (3, .int x3), (5, .int x5)]) dX12_bringBuffer_144 (by decide) rfl ?_
    refine x_iinc (lv' := [(5, .int (x5 + 1)), (4, .int (aI h43 (fR h43 x0 3196) (Int32.toNatClampNeg x4))), (0, rv x0), (2, rv x2), (3, .int x3)]) 4 dX12_bringBuffer_146 rfl (by decide) rfl ?_
    refine x_goto (tgt := 59) dX12_bringBuffer_149 (by decide) ?_
    refine xP.pick (lv' := [(0, rv x0), (2, rv x2), (3, .int x3), (4, .int (aI h43 (fR h43 x0 3196) (Int32.toNatClampNeg x4))), (5, .int (x5 + 1))]) [2, 3, 4, 1, 0] rfl ?_
    exact hq
set_option maxRecDepth 100000 in
def bX12_bringBuffer_40 (G : xG) (fr lo : Nat) (x0 : Nat) (x2 : Nat) (x3 : Int32) (h : xH) (Q : Outcome → xH → Prop) : Prop := tg h x2 = 14 ∧ tg h (fR h x2 3333) = 14 ∧ tg h x0 = 13 ∧ 1 ≤ fr ∧ 15 ≤ lo ∧ xRv G YX12_blank (fr - 1) (lo - 15) [rv x0, .int x3, .int (x3 + (Int64.toInt32 (fJ h (fR h x2 3333) 3334)))] h (fun h6 => xext h h6 → Q (.returned none) h6) (fun r h2 => Q (.threw r) h2)
set_option maxRecDepth 100000 in
theorem uX12_bringBuffer_40 {G : xG} {fr lo : Nat} {x0 : Nat} {x2 : Nat} {x3 : Int32} {h : xH} {Q : Outcome → xH → Prop} (hq : bX12_bringBuffer_40 G fr lo x0 x2 x3 h Q) : xP G YX12_bringBuffer fr lo 40 [(0, rv x0), (2, rv x2), (3, .int x3)] [] h Q := by
  unfold bX12_bringBuffer_40 at hq
  refine x_aload_n 0 dX12_bringBuffer_40 rfl ?_
  refine x_iload_n 2 dX12_bringBuffer_41 rfl ?_
  refine x_iload_n 2 dX12_bringBuffer_42 rfl ?_
  refine x_aload_n 1 dX12_bringBuffer_43 rfl ?_
  obtain ⟨g1, hq⟩ := hq
  refine x_get (v := rv (fR h x2 3333)) fdX12_598 dX12_bringBuffer_44 g1 rfl ?_
  obtain ⟨g2, hq⟩ := hq
  refine x_get (v := .long (fJ h (fR h x2 3333) 3334)) fdX12_603 dX12_bringBuffer_47 g2 rfl ?_
  refine x_l2i dX12_bringBuffer_50 ?_
  refine x_iadd dX12_bringBuffer_51 ?_
  obtain ⟨g3, hq⟩ := hq
  obtain ⟨g4, g5, hq⟩ := hq
  refine x_callV (Yc := YX12_blank) (as := [.int x3, .int (x3 + (Int64.toInt32 (fJ h (fR h x2 3333) 3334)))]) (st := []) q4494 mvX12_blank g3 rfl dX12_bringBuffer_52 (xle (xal1 (rv_cat _) (xal1 rfl (xal1 rfl xal0))) (by decide)) (xfr g4) (xlo xsw0 (by decide) g5) (xKv hq (fun h6 hq e8 => ?_) (fun _ _ q _ => q))
  replace hq := hq e8
  exact x_vret rfl dX12_bringBuffer_55 hq
set_option maxRecDepth 100000 in
def bX12_bringBuffer (G : xG) (fr lo : Nat) (x0 : Nat) (x1 : Int32) (h : xH) (Q : Outcome → xH → Prop) : Prop := tg h x0 = 13 ∧ tg h (fR h x0 3189) = 108 ∧ vp_in x1 (ln h (fR h x0 3189)) ∧ tg h (fR h x0 3187) = 100 ∧ vp_in x1 (ln h (fR h x0 3187)) ∧ tg h (fR h x0 3185) = 100 ∧ vp_in x1 (ln h (fR h x0 3185)) ∧ tg h (fR h x0 3182) = 100 ∧ vp_in x1 (ln h (fR h x0 3182)) ∧ ((¬ (aI h (fR h x0 3182) (Int32.toNatClampNeg x1)) = 1 → bX12_bringBuffer_40 G fr lo x0 (aR h (fR h x0 3189) (Int32.toNatClampNeg x1)) ((aI h (fR h x0 3187) (Int32.toNatClampNeg x1)) + 1) h Q) ∧ ((aI h (fR h x0 3182) (Int32.toNatClampNeg x1)) = 1 → ((¬ (aI h (fR h x0 3185) (Int32.toNatClampNeg x1)) = (-1) → lX12_bringBuffer_59 G fr lo x0 (aR h (fR h x0 3189) (Int32.toNatClampNeg x1)) ((aI h (fR h x0 3187) (Int32.toNatClampNeg x1)) + 1) (aI h (fR h x0 3185) (Int32.toNatClampNeg x1)) 0 h Q) ∧ ((aI h (fR h x0 3185) (Int32.toNatClampNeg x1)) = (-1) → bX12_bringBuffer_40 G fr lo x0 (aR h (fR h x0 3189) (Int32.toNatClampNeg x1)) ((aI h (fR h x0 3187) (Int32.toNatClampNeg x1)) + 1) h Q))))
set_option maxRecDepth 100000 in
theorem uX12_bringBuffer {G : xG} {fr lo : Nat} {x0 : Nat} {x1 : Int32} {h : xH} {Q : Outcome → xH → Prop} (hq : bX12_bringBuffer G fr lo x0 x1 h Q) : xP G YX12_bringBuffer fr lo 0 [(0, rv x0), (1, .int x1)] [] h Q := by
  unfold bX12_bringBuffer at hq
  refine x_aload_n 0 dX12_bringBuffer_0 rfl ?_
  obtain ⟨g1, hq⟩ := hq
  refine x_get (v := rv (fR h x0 3189)) fdX12_225 dX12_bringBuffer_1 g1 rfl ?_
  refine x_iload_n 1 dX12_bringBuffer_4 rfl ?_
  obtain ⟨g2, hq⟩ := hq
  obtain ⟨i3, hq⟩ := hq
  refine x_aald 8 rfl g2 (by decide) i3 dX12_bringBuffer_5 ?_
  refine x_astore_n (lv' := [(2, rv (aR h (fR h x0 3189) (Int32.toNatClampNeg x1))), (0, rv x0), (1, .int x1)]) dX12_bringBuffer_6 (by decide) rfl ?_
  refine x_aload_n 1 dX12_bringBuffer_7 rfl ?_
  refine x_get (v := rv (fR h x0 3187)) fdX12_219 dX12_bringBuffer_8 g1 rfl ?_
  refine x_iload_n 2 dX12_bringBuffer_11 rfl ?_
  obtain ⟨g4, hq⟩ := hq
  obtain ⟨i5, hq⟩ := hq
  refine x_iald 0 (Or.inl rfl) g4 i5 dX12_bringBuffer_12 ?_
  refine x_iconst (v := 1) dX12_bringBuffer_13 (by decide) ?_
  refine x_iadd dX12_bringBuffer_14 ?_
  refine x_istore_n (lv' := [(3, .int ((aI h (fR h x0 3187) (Int32.toNatClampNeg x1)) + 1)), (2, rv (aR h (fR h x0 3189) (Int32.toNatClampNeg x1))), (0, rv x0), (1, .int x1)]) dX12_bringBuffer_15 (by decide) (by first | rfl | (simp [rv_cat, Value.category]; done) | (simp [rv_cat, Value.category]; decide)) ?_
  refine x_aload_n 2 dX12_bringBuffer_16 rfl ?_
  refine x_get (v := rv (fR h x0 3185)) fdX12_213 dX12_bringBuffer_17 g1 rfl ?_
  refine x_iload_n 3 dX12_bringBuffer_20 rfl ?_
  obtain ⟨g6, hq⟩ := hq
  obtain ⟨i7, hq⟩ := hq
  refine x_iald 0 (Or.inl rfl) g6 i7 dX12_bringBuffer_21 ?_
  refine x_istore (lv' := [(4, .int (aI h (fR h x0 3185) (Int32.toNatClampNeg x1))), (3, .int ((aI h (fR h x0 3187) (Int32.toNatClampNeg x1)) + 1)), (2, rv (aR h (fR h x0 3189) (Int32.toNatClampNeg x1))), (0, rv x0), (1, .int x1)]) dX12_bringBuffer_22 (by decide) rfl ?_
  refine x_aload_n 3 dX12_bringBuffer_24 rfl ?_
  refine x_get (v := rv (fR h x0 3182)) fdX12_204 dX12_bringBuffer_25 g1 rfl ?_
  refine x_iload_n 4 dX12_bringBuffer_28 rfl ?_
  obtain ⟨g8, hq⟩ := hq
  obtain ⟨i9, hq⟩ := hq
  refine x_iald 0 (Or.inl rfl) g8 i9 dX12_bringBuffer_29 ?_
  refine x_iconst (v := 1) dX12_bringBuffer_30 (by decide) ?_
  refine x_icmp_ne (tgt := 40) dX12_bringBuffer_31 (by decide) (fun c10 => ?_) (fun c10 => ?_)
  · replace hq := hq.1 c10
    refine xP.pick (lv' := [(0, rv x0), (2, rv (aR h (fR h x0 3189) (Int32.toNatClampNeg x1))), (3, .int ((aI h (fR h x0 3187) (Int32.toNatClampNeg x1)) + 1))]) [3, 2, 1] rfl ?_
    exact uX12_bringBuffer_40 hq
  · replace hq := hq.2 c10
    refine x_iload 0 dX12_bringBuffer_34 rfl ?_
    refine x_iconst (v := (-1)) dX12_bringBuffer_36 (by decide) ?_
    refine x_icmp_ne (tgt := 56) dX12_bringBuffer_37 (by decide) (fun c11 => ?_) (fun c11 => ?_)
    · replace hq := hq.1 c11
      refine x_iconst (v := 0) dX12_bringBuffer_56 (by decide) ?_
      refine x_istore (lv' := [(5, .int 0), (4, .int (aI h (fR h x0 3185) (Int32.toNatClampNeg x1))), (3, .int ((aI h (fR h x0 3187) (Int32.toNatClampNeg x1)) + 1)), (2, rv (aR h (fR h x0 3189) (Int32.toNatClampNeg x1))), (0, rv x0), (1, .int x1)]) dX12_bringBuffer_57 (by decide) rfl ?_
      refine xP.pick (lv' := [(0, rv x0), (2, rv (aR h (fR h x0 3189) (Int32.toNatClampNeg x1))), (3, .int ((aI h (fR h x0 3187) (Int32.toNatClampNeg x1)) + 1)), (4, .int (aI h (fR h x0 3185) (Int32.toNatClampNeg x1))), (5, .int 0)]) [4, 3, 2, 1, 0] rfl ?_
      exact hq
    · replace hq := hq.2 c11
      refine xP.pick (lv' := [(0, rv x0), (2, rv (aR h (fR h x0 3189) (Int32.toNatClampNeg x1))), (3, .int ((aI h (fR h x0 3187) (Int32.toNatClampNeg x1)) + 1))]) [3, 2, 1] rfl ?_
      exact uX12_bringBuffer_40 hq
theorem rX12_bringBuffer {G : xG} {fr lo : Nat} {x0 : Nat} {x1 : Int32} {h : xH} {Q : Outcome → xH → Prop} (hq : bX12_bringBuffer G fr lo x0 x1 h Q) : xR G YX12_bringBuffer fr lo [rv x0, .int x1] h Q := by
  show xP _ _ _ _ _ (lv_args 0 _) _ _ _
  rw [show lv_args 0 [rv x0, .int x1] = [(0, rv x0), (1, .int x1)] from (xla1 (rv_cat _) (xla1 rfl xla0))]
  exact uX12_bringBuffer hq
set_option maxRecDepth 100000 in
theorem dX12_rewrite_0 : decode cX12_rewrite 0 = .ok (.aload_n 0, 1) := by decide +kernel
set_option maxRecDepth 100000 in
theorem dX12_rewrite_1 : decode cX12_rewrite 1 = .ok (.iload_n 1, 1) := by decide +kernel
set_option maxRecDepth 100000 in
theorem dX12_rewrite_2 : decode cX12_rewrite 2 = .ok (.invokevirtual 1204, 3) := by decide +kernel
set_option maxRecDepth 100000 in
theorem dX12_rewrite_5 : decode cX12_rewrite 5 = .ok (.aload_n 0, 1) := by decide +kernel
set_option maxRecDepth 100000 in
theorem dX12_rewrite_6 : decode cX12_rewrite 6 = .ok (.getfield 204, 3) := by decide +kernel
set_option maxRecDepth 100000 in
theorem dX12_rewrite_9 : decode cX12_rewrite 9 = .ok (.iload_n 1, 1) := by decide +kernel
set_option maxRecDepth 100000 in
theorem dX12_rewrite_10 : decode cX12_rewrite 10 = .ok (.iconst 2, 1) := by decide +kernel
set_option maxRecDepth 100000 in
theorem dX12_rewrite_11 : decode cX12_rewrite 11 = .ok (.iastore, 1) := by decide +kernel
set_option maxRecDepth 100000 in
theorem dX12_rewrite_12 : decode cX12_rewrite 12 = .ok (.aload_n 0, 1) := by decide +kernel
set_option maxRecDepth 100000 in
theorem dX12_rewrite_13 : decode cX12_rewrite 13 = .ok (.iload_n 1, 1) := by decide +kernel
set_option maxRecDepth 100000 in
theorem dX12_rewrite_14 : decode cX12_rewrite 14 = .ok (.invokevirtual 1201, 3) := by decide +kernel
set_option maxRecDepth 100000 in
theorem dX12_rewrite_17 : decode cX12_rewrite 17 = .ok (.return_, 1) := by decide +kernel
set_option maxRecDepth 100000 in
def bX12_rewrite (G : xG) (fr lo : Nat) (x0 : Nat) (x1 : Int32) (h : xH) (Q : Outcome → xH → Prop) : Prop := tg h x0 = 13 ∧ 1 ≤ fr ∧ 15 ≤ lo ∧ xRv G YX12_empty (fr - 1) (lo - 15) [rv x0, .int x1] h (fun h4 => xext h h4 → tg h4 (fR h4 x0 3182) = 100 ∧ vp_in x1 (ln h4 (fR h4 x0 3182)) ∧ (∀ h10 : xH, h10 = tI h4 (fR h4 x0 3182) (Int32.toNatClampNeg x1) 2 → 1 ≤ fr ∧ 17 ≤ lo ∧ xRv G YX12_bringBuffer (fr - 1) (lo - 17) [rv x0, .int x1] h10 (fun h15 => xext h10 h15 → Q (.returned none) h15) (fun r h2 => Q (.threw r) h2))) (fun r h2 => Q (.threw r) h2)
set_option maxRecDepth 100000 in
theorem uX12_rewrite {G : xG} {fr lo : Nat} {x0 : Nat} {x1 : Int32} {h : xH} {Q : Outcome → xH → Prop} (hq : bX12_rewrite G fr lo x0 x1 h Q) : xP G YX12_rewrite fr lo 0 [(0, rv x0), (1, .int x1)] [] h Q := by
  unfold bX12_rewrite at hq
  refine x_aload_n 0 dX12_rewrite_0 rfl ?_
  refine x_iload_n 1 dX12_rewrite_1 rfl ?_
  obtain ⟨g1, hq⟩ := hq
  obtain ⟨g2, g3, hq⟩ := hq
  refine x_callV (Yc := YX12_empty) (as := [.int x1]) (st := []) q4535 mvX12_empty g1 rfl dX12_rewrite_2 (xle (xal1 (rv_cat _) (xal1 rfl xal0)) (by decide)) (xfr g2) (xlo xsw0 (by decide) g3) (xKv hq (fun h4 hq e6 => ?_) (fun _ _ q _ => q))
  replace hq := hq e6
  refine x_aload_n 0 dX12_rewrite_5 rfl ?_
  have t7 : tg h4 x0 = 13 := e6.tg g1 (by decide)
  refine x_get (v := rv (fR h4 x0 3182)) fdX12_204 dX12_rewrite_6 t7 rfl ?_
  refine x_iload_n 1 dX12_rewrite_9 rfl ?_
  refine x_iconst (v := 2) dX12_rewrite_10 (by decide) ?_
  obtain ⟨g8, hq⟩ := hq
  obtain ⟨i9, hq⟩ := hq
  obtain ⟨h10, e11⟩ : ∃ y, y = tI h4 (fR h4 x0 3182) (Int32.toNatClampNeg x1) 2 := ⟨_, rfl⟩
  replace hq := hq h10 e11
  refine x_iast' g8 i9 dX12_rewrite_11 e11 ?_
  refine x_aload_n 0 dX12_rewrite_12 rfl ?_
  refine x_iload_n 1 dX12_rewrite_13 rfl ?_
  have t12 : tg h10 x0 = 13 := by rw [e11]; exact t7
  obtain ⟨g13, g14, hq⟩ := hq
  refine x_callV (Yc := YX12_bringBuffer) (as := [.int x1]) (st := []) q4526 mvX12_bringBuffer t12 rfl dX12_rewrite_14 (xle (xal1 (rv_cat _) (xal1 rfl xal0)) (by decide)) (xfr g13) (xlo xsw0 (by decide) g14) (xKv hq (fun h15 hq e17 => ?_) (fun _ _ q _ => q))
  replace hq := hq e17
  exact x_vret rfl dX12_rewrite_17 hq
theorem rX12_rewrite {G : xG} {fr lo : Nat} {x0 : Nat} {x1 : Int32} {h : xH} {Q : Outcome → xH → Prop} (hq : bX12_rewrite G fr lo x0 x1 h Q) : xR G YX12_rewrite fr lo [rv x0, .int x1] h Q := by
  show xP _ _ _ _ _ (lv_args 0 _) _ _ _
  rw [show lv_args 0 [rv x0, .int x1] = [(0, rv x0), (1, .int x1)] from (xla1 (rv_cat _) (xla1 rfl xla0))]
  exact uX12_rewrite hq
set_option maxRecDepth 100000 in
theorem dX12_empty_0 : decode cX12_empty 0 = .ok (.aload_n 0, 1) := by decide +kernel
set_option maxRecDepth 100000 in
theorem dX12_empty_1 : decode cX12_empty 1 = .ok (.getfield 207, 3) := by decide +kernel
set_option maxRecDepth 100000 in
theorem dX12_empty_4 : decode cX12_empty 4 = .ok (.iload_n 1, 1) := by decide +kernel
set_option maxRecDepth 100000 in
theorem dX12_empty_5 : decode cX12_empty 5 = .ok (.iaload, 1) := by decide +kernel
set_option maxRecDepth 100000 in
theorem dX12_empty_6 : decode cX12_empty 6 = .ok (.istore_n 2, 1) := by decide +kernel
set_option maxRecDepth 100000 in
theorem dX12_empty_7 : decode cX12_empty 7 = .ok (.iload_n 2, 1) := by decide +kernel
set_option maxRecDepth 100000 in
theorem dX12_empty_8 : decode cX12_empty 8 = .ok (.iconst (-1), 1) := by decide +kernel
set_option maxRecDepth 100000 in
theorem dX12_empty_9 : decode cX12_empty 9 = .ok (.if_icmp .eq 30, 3) := by decide +kernel
set_option maxRecDepth 100000 in
theorem dX12_empty_12 : decode cX12_empty 12 = .ok (.aload_n 0, 1) := by decide +kernel
set_option maxRecDepth 100000 in
theorem dX12_empty_13 : decode cX12_empty 13 = .ok (.getfield 241, 3) := by decide +kernel
set_option maxRecDepth 100000 in
theorem dX12_empty_16 : decode cX12_empty 16 = .ok (.iload_n 2, 1) := by decide +kernel
set_option maxRecDepth 100000 in
theorem dX12_empty_17 : decode cX12_empty 17 = .ok (.iaload, 1) := by decide +kernel
set_option maxRecDepth 100000 in
theorem dX12_empty_18 : decode cX12_empty 18 = .ok (.istore_n 3, 1) := by decide +kernel
set_option maxRecDepth 100000 in
theorem dX12_empty_19 : decode cX12_empty 19 = .ok (.aload_n 0, 1) := by decide +kernel
set_option maxRecDepth 100000 in
theorem dX12_empty_20 : decode cX12_empty 20 = .ok (.getfield 241, 3) := by decide +kernel
set_option maxRecDepth 100000 in
theorem dX12_empty_23 : decode cX12_empty 23 = .ok (.iload_n 2, 1) := by decide +kernel
set_option maxRecDepth 100000 in
theorem dX12_empty_24 : decode cX12_empty 24 = .ok (.aload_n 0, 1) := by decide +kernel
set_option maxRecDepth 100000 in
theorem dX12_empty_25 : decode cX12_empty 25 = .ok (.getfield 1183, 3) := by decide +kernel
set_option maxRecDepth 100000 in
theorem dX12_empty_28 : decode cX12_empty 28 = .ok (.iastore, 1) := by decide +kernel
set_option maxRecDepth 100000 in
theorem dX12_empty_29 : decode cX12_empty 29 = .ok (.aload_n 0, 1) := by decide +kernel
set_option maxRecDepth 100000 in
theorem dX12_empty_30 : decode cX12_empty 30 = .ok (.iload_n 2, 1) := by decide +kernel
set_option maxRecDepth 100000 in
theorem dX12_empty_31 : decode cX12_empty 31 = .ok (.putfield 1183, 3) := by decide +kernel
set_option maxRecDepth 100000 in
theorem dX12_empty_34 : decode cX12_empty 34 = .ok (.iload_n 3, 1) := by decide +kernel
set_option maxRecDepth 100000 in
theorem dX12_empty_35 : decode cX12_empty 35 = .ok (.istore_n 2, 1) := by decide +kernel
set_option maxRecDepth 100000 in
theorem dX12_empty_36 : decode cX12_empty 36 = .ok (.goto (-29), 3) := by decide +kernel
set_option maxRecDepth 100000 in
theorem dX12_empty_39 : decode cX12_empty 39 = .ok (.aload_n 0, 1) := by decide +kernel
set_option maxRecDepth 100000 in
theorem dX12_empty_40 : decode cX12_empty 40 = .ok (.dup, 1) := by decide +kernel
set_option maxRecDepth 100000 in
theorem dX12_empty_41 : decode cX12_empty 41 = .ok (.getfield 1186, 3) := by decide +kernel
set_option maxRecDepth 100000 in
theorem dX12_empty_44 : decode cX12_empty 44 = .ok (.aload_n 0, 1) := by decide +kernel
set_option maxRecDepth 100000 in
theorem dX12_empty_45 : decode cX12_empty 45 = .ok (.getfield 216, 3) := by decide +kernel
set_option maxRecDepth 100000 in
theorem dX12_empty_48 : decode cX12_empty 48 = .ok (.iload_n 1, 1) := by decide +kernel
set_option maxRecDepth 100000 in
theorem dX12_empty_49 : decode cX12_empty 49 = .ok (.iaload, 1) := by decide +kernel
set_option maxRecDepth 100000 in
theorem dX12_empty_50 : decode cX12_empty 50 = .ok (.isub, 1) := by decide +kernel
set_option maxRecDepth 100000 in
theorem dX12_empty_51 : decode cX12_empty 51 = .ok (.putfield 1186, 3) := by decide +kernel
set_option maxRecDepth 100000 in
theorem dX12_empty_54 : decode cX12_empty 54 = .ok (.aload_n 0, 1) := by decide +kernel
set_option maxRecDepth 100000 in
theorem dX12_empty_55 : decode cX12_empty 55 = .ok (.getfield 207, 3) := by decide +kernel
set_option maxRecDepth 100000 in
theorem dX12_empty_58 : decode cX12_empty 58 = .ok (.iload_n 1, 1) := by decide +kernel
set_option maxRecDepth 100000 in
theorem dX12_empty_59 : decode cX12_empty 59 = .ok (.iconst (-1), 1) := by decide +kernel
set_option maxRecDepth 100000 in
theorem dX12_empty_60 : decode cX12_empty 60 = .ok (.iastore, 1) := by decide +kernel
set_option maxRecDepth 100000 in
theorem dX12_empty_61 : decode cX12_empty 61 = .ok (.aload_n 0, 1) := by decide +kernel
set_option maxRecDepth 100000 in
theorem dX12_empty_62 : decode cX12_empty 62 = .ok (.getfield 210, 3) := by decide +kernel
set_option maxRecDepth 100000 in
theorem dX12_empty_65 : decode cX12_empty 65 = .ok (.iload_n 1, 1) := by decide +kernel
set_option maxRecDepth 100000 in
theorem dX12_empty_66 : decode cX12_empty 66 = .ok (.iconst (-1), 1) := by decide +kernel
set_option maxRecDepth 100000 in
theorem dX12_empty_67 : decode cX12_empty 67 = .ok (.iastore, 1) := by decide +kernel
set_option maxRecDepth 100000 in
theorem dX12_empty_68 : decode cX12_empty 68 = .ok (.aload_n 0, 1) := by decide +kernel
set_option maxRecDepth 100000 in
theorem dX12_empty_69 : decode cX12_empty 69 = .ok (.getfield 213, 3) := by decide +kernel
set_option maxRecDepth 100000 in
theorem dX12_empty_72 : decode cX12_empty 72 = .ok (.iload_n 1, 1) := by decide +kernel
set_option maxRecDepth 100000 in
theorem dX12_empty_73 : decode cX12_empty 73 = .ok (.iconst (-1), 1) := by decide +kernel
set_option maxRecDepth 100000 in
theorem dX12_empty_74 : decode cX12_empty 74 = .ok (.iastore, 1) := by decide +kernel
set_option maxRecDepth 100000 in
theorem dX12_empty_75 : decode cX12_empty 75 = .ok (.aload_n 0, 1) := by decide +kernel
set_option maxRecDepth 100000 in
theorem dX12_empty_76 : decode cX12_empty 76 = .ok (.getfield 216, 3) := by decide +kernel
set_option maxRecDepth 100000 in
theorem dX12_empty_79 : decode cX12_empty 79 = .ok (.iload_n 1, 1) := by decide +kernel
set_option maxRecDepth 100000 in
theorem dX12_empty_80 : decode cX12_empty 80 = .ok (.iconst 0, 1) := by decide +kernel
set_option maxRecDepth 100000 in
theorem dX12_empty_81 : decode cX12_empty 81 = .ok (.iastore, 1) := by decide +kernel
set_option maxRecDepth 100000 in
theorem dX12_empty_82 : decode cX12_empty 82 = .ok (.return_, 1) := by decide +kernel
def lX12_empty_7 (G : xG) (fr lo : Nat) (x0 : Nat) (x1 : Int32) (x2 : Int32) (h : xH) (Q : Outcome → xH → Prop) : Prop := xP G YX12_empty fr lo 7 [(0, rv x0), (1, .int x1), (2, .int x2)] [] h Q
set_option maxRecDepth 100000 in
def bX12_empty_7 (G : xG) (fr lo : Nat) (x0 : Nat) (x1 : Int32) (x2 : Int32) (h : xH) (Q : Outcome → xH → Prop) : Prop := ((x2 = (-1) → tg h x0 = 13 ∧ tg h (fR h x0 3186) = 100 ∧ vp_in x1 (ln h (fR h x0 3186)) ∧ (∀ h5 : xH, h5 = sI h x0 3191 ((fI h x0 3191) - (aI h (fR h x0 3186) (Int32.toNatClampNeg x1))) → tg h5 (fR h5 x0 3183) = 100 ∧ vp_in x1 (ln h5 (fR h5 x0 3183)) ∧ (∀ h10 : xH, h10 = tI h5 (fR h5 x0 3183) (Int32.toNatClampNeg x1) (-1) → tg h10 (fR h10 x0 3184) = 100 ∧ vp_in x1 (ln h10 (fR h10 x0 3184)) ∧ (∀ h15 : xH, h15 = tI h10 (fR h10 x0 3184) (Int32.toNatClampNeg x1) (-1) → tg h15 (fR h15 x0 3185) = 100 ∧ vp_in x1 (ln h15 (fR h15 x0 3185)) ∧ (∀ h20 : xH, h20 = tI h15 (fR h15 x0 3185) (Int32.toNatClampNeg x1) (-1) → tg h20 (fR h20 x0 3186) = 100 ∧ vp_in x1 (ln h20 (fR h20 x0 3186)) ∧ (∀ h25 : xH, h25 = tI h20 (fR h20 x0 3186) (Int32.toNatClampNeg x1) 0 → Q (.returned none) h25)))))) ∧ (¬ x2 = (-1) → tg h x0 = 13 ∧ tg h (fR h x0 3196) = 100 ∧ vp_in x2 (ln h (fR h x0 3196)) ∧ vp_in x2 (ln h (fR h x0 3196)) ∧ (∀ h31 : xH, h31 = tI h (fR h x0 3196) (Int32.toNatClampNeg x2) (fI h x0 3197) → (∀ h34 : xH, h34 = sI h31 x0 3197 x2 → lX12_empty_7 G fr lo x0 x1 (aI h (fR h x0 3196) (Int32.toNatClampNeg x2)) h34 Q))))
set_option maxRecDepth 100000 in
theorem uX12_empty_7 {G : xG} {fr lo : Nat} {x0 : Nat} {x1 : Int32} {x2 : Int32} {h : xH} {Q : Outcome → xH → Prop} (hq : bX12_empty_7 G fr lo x0 x1 x2 h Q) : xP G YX12_empty fr lo 7 [(0, rv x0), (1, .int x1), (2, .int x2)] [] h Q := by
  unfold bX12_empty_7 at hq
  refine x_iload_n 2 dX12_empty_7 rfl ?_
  refine x_iconst (v := (-1)) dX12_empty_8 (by decide) ?_
  refine x_icmp_eq (tgt := 39) dX12_empty_9 (by decide) (fun c1 => ?_) (fun c1 => ?_)
  · replace hq := hq.1 c1
    refine x_aload_n 0 dX12_empty_39 rfl ?_
    refine x_dup dX12_empty_40 (rv_cat _) ?_
    obtain ⟨g2, hq⟩ := hq
    refine x_get (v := .int (fI h x0 3191)) fdX12_1186 dX12_empty_41 g2 rfl ?_
    refine x_aload_n 0 dX12_empty_44 rfl ?_
    refine x_get (v := rv (fR h x0 3186)) fdX12_216 dX12_empty_45 g2 rfl ?_
    refine x_iload_n 1 dX12_empty_48 rfl ?_
    obtain ⟨g3, hq⟩ := hq
    obtain ⟨i4, hq⟩ := hq
    refine x_iald 0 (Or.inl rfl) g3 i4 dX12_empty_49 ?_
    refine x_isub dX12_empty_50 ?_
    obtain ⟨h5, e6⟩ : ∃ y, y = sI h x0 3191 ((fI h x0 3191) - (aI h (fR h x0 3186) (Int32.toNatClampNeg x1))) := ⟨_, rfl⟩
    replace hq := hq h5 e6
    refine x_putI fdX12_1186 xty_I1 dX12_empty_51 g2 (Or.inl (by rw [g2]; rfl)) xnI rfl e6 ?_
    refine x_aload_n 0 dX12_empty_54 rfl ?_
    have t7 : tg h5 x0 = 13 := by rw [e6]; exact g2
    refine x_get (v := rv (fR h5 x0 3183)) fdX12_207 dX12_empty_55 t7 rfl ?_
    refine x_iload_n 1 dX12_empty_58 rfl ?_
    refine x_iconst (v := (-1)) dX12_empty_59 (by decide) ?_
    obtain ⟨g8, hq⟩ := hq
    obtain ⟨i9, hq⟩ := hq
    obtain ⟨h10, e11⟩ : ∃ y, y = tI h5 (fR h5 x0 3183) (Int32.toNatClampNeg x1) (-1) := ⟨_, rfl⟩
    replace hq := hq h10 e11
    refine x_iast' g8 i9 dX12_empty_60 e11 ?_
    refine x_aload_n 0 dX12_empty_61 rfl ?_
    have t12 : tg h10 x0 = 13 := by rw [e11]; exact t7
    refine x_get (v := rv (fR h10 x0 3184)) fdX12_210 dX12_empty_62 t12 rfl ?_
    refine x_iload_n 1 dX12_empty_65 rfl ?_
    refine x_iconst (v := (-1)) dX12_empty_66 (by decide) ?_
    obtain ⟨g13, hq⟩ := hq
    obtain ⟨i14, hq⟩ := hq
    obtain ⟨h15, e16⟩ : ∃ y, y = tI h10 (fR h10 x0 3184) (Int32.toNatClampNeg x1) (-1) := ⟨_, rfl⟩
    replace hq := hq h15 e16
    refine x_iast' g13 i14 dX12_empty_67 e16 ?_
    refine x_aload_n 0 dX12_empty_68 rfl ?_
    have t17 : tg h15 x0 = 13 := by rw [e16]; exact t12
    refine x_get (v := rv (fR h15 x0 3185)) fdX12_213 dX12_empty_69 t17 rfl ?_
    refine x_iload_n 1 dX12_empty_72 rfl ?_
    refine x_iconst (v := (-1)) dX12_empty_73 (by decide) ?_
    obtain ⟨g18, hq⟩ := hq
    obtain ⟨i19, hq⟩ := hq
    obtain ⟨h20, e21⟩ : ∃ y, y = tI h15 (fR h15 x0 3185) (Int32.toNatClampNeg x1) (-1) := ⟨_, rfl⟩
    replace hq := hq h20 e21
    refine x_iast' g18 i19 dX12_empty_74 e21 ?_
    refine x_aload_n 0 dX12_empty_75 rfl ?_
    have t22 : tg h20 x0 = 13 := by rw [e21]; exact t17
    refine x_get (v := rv (fR h20 x0 3186)) fdX12_216 dX12_empty_76 t22 rfl ?_
    refine x_iload_n 1 dX12_empty_79 rfl ?_
    refine x_iconst (v := 0) dX12_empty_80 (by decide) ?_
    obtain ⟨g23, hq⟩ := hq
    obtain ⟨i24, hq⟩ := hq
    obtain ⟨h25, e26⟩ : ∃ y, y = tI h20 (fR h20 x0 3186) (Int32.toNatClampNeg x1) 0 := ⟨_, rfl⟩
    replace hq := hq h25 e26
    refine x_iast' g23 i24 dX12_empty_81 e26 ?_
    exact x_vret rfl dX12_empty_82 hq
  · replace hq := hq.2 c1
    refine x_aload_n 0 dX12_empty_12 rfl ?_
    obtain ⟨g27, hq⟩ := hq
    refine x_get (v := rv (fR h x0 3196)) fdX12_241 dX12_empty_13 g27 rfl ?_
    refine x_iload_n 2 dX12_empty_16 rfl ?_
    obtain ⟨g28, hq⟩ := hq
    obtain ⟨i29, hq⟩ := hq
    refine x_iald 0 (Or.inl rfl) g28 i29 dX12_empty_17 ?_
    refine x_istore_n (lv' := [(3, .int (aI h (fR h x0 3196) (Int32.toNatClampNeg x2))), (0, rv x0), (1, .int x1), (2, .int x2)]) dX12_empty_18 (by decide) rfl ?_
    refine x_aload_n 1 dX12_empty_19 rfl ?_
    refine x_get (v := rv (fR h x0 3196)) fdX12_241 dX12_empty_20 g27 rfl ?_
    refine x_iload_n 3 dX12_empty_23 rfl ?_
    refine x_aload_n 1 dX12_empty_24 rfl ?_
    refine x_get (v := .int (fI h x0 3197)) fdX12_1183 dX12_empty_25 g27 rfl ?_
    obtain ⟨i30, hq⟩ := hq
    obtain ⟨h31, e32⟩ : ∃ y, y = tI h (fR h x0 3196) (Int32.toNatClampNeg x2) (fI h x0 3197) := ⟨_, rfl⟩
    replace hq := hq h31 e32
    refine x_iast' g28 i30 dX12_empty_28 e32 ?_
    refine x_aload_n 1 dX12_empty_29 rfl ?_
    refine x_iload_n 3 dX12_empty_30 rfl ?_
    have t33 : tg h31 x0 = 13 := by rw [e32]; exact g27
    obtain ⟨h34, e35⟩ : ∃ y, y = sI h31 x0 3197 x2 := ⟨_, rfl⟩
    replace hq := hq h34 e35
    refine x_putI fdX12_1183 xty_I1 dX12_empty_31 t33 (Or.inl (by rw [t33]; rfl)) xnI rfl e35 ?_
    refine x_iload_n 0 dX12_empty_34 rfl ?_
    refine x_istore_n (lv' := [(2, .int (aI h (fR h x0 3196) (Int32.toNatClampNeg x2))), (3, .int (aI h (fR h x0 3196) (Int32.toNatClampNeg x2))), (0, rv x0), (1, .int x1)]) dX12_empty_35 (by decide) rfl ?_
    refine x_goto (tgt := 7) dX12_empty_36 (by decide) ?_
    refine xP.pick (lv' := [(0, rv x0), (1, .int x1), (2, .int (aI h (fR h x0 3196) (Int32.toNatClampNeg x2)))]) [2, 3, 0] rfl ?_
    exact hq
set_option maxRecDepth 100000 in
def bX12_empty (G : xG) (fr lo : Nat) (x0 : Nat) (x1 : Int32) (h : xH) (Q : Outcome → xH → Prop) : Prop := tg h x0 = 13 ∧ tg h (fR h x0 3183) = 100 ∧ vp_in x1 (ln h (fR h x0 3183)) ∧ lX12_empty_7 G fr lo x0 x1 (aI h (fR h x0 3183) (Int32.toNatClampNeg x1)) h Q
set_option maxRecDepth 100000 in
theorem uX12_empty {G : xG} {fr lo : Nat} {x0 : Nat} {x1 : Int32} {h : xH} {Q : Outcome → xH → Prop} (hq : bX12_empty G fr lo x0 x1 h Q) : xP G YX12_empty fr lo 0 [(0, rv x0), (1, .int x1)] [] h Q := by
  unfold bX12_empty at hq
  refine x_aload_n 0 dX12_empty_0 rfl ?_
  obtain ⟨g1, hq⟩ := hq
  refine x_get (v := rv (fR h x0 3183)) fdX12_207 dX12_empty_1 g1 rfl ?_
  refine x_iload_n 1 dX12_empty_4 rfl ?_
  obtain ⟨g2, hq⟩ := hq
  obtain ⟨i3, hq⟩ := hq
  refine x_iald 0 (Or.inl rfl) g2 i3 dX12_empty_5 ?_
  refine x_istore_n (lv' := [(2, .int (aI h (fR h x0 3183) (Int32.toNatClampNeg x1))), (0, rv x0), (1, .int x1)]) dX12_empty_6 (by decide) rfl ?_
  refine xP.pick (lv' := [(0, rv x0), (1, .int x1), (2, .int (aI h (fR h x0 3183) (Int32.toNatClampNeg x1)))]) [1, 2, 0] rfl ?_
  exact hq
theorem rX12_empty {G : xG} {fr lo : Nat} {x0 : Nat} {x1 : Int32} {h : xH} {Q : Outcome → xH → Prop} (hq : bX12_empty G fr lo x0 x1 h Q) : xR G YX12_empty fr lo [rv x0, .int x1] h Q := by
  show xP _ _ _ _ _ (lv_args 0 _) _ _ _
  rw [show lv_args 0 [rv x0, .int x1] = [(0, rv x0), (1, .int x1)] from (xla1 (rv_cat _) (xla1 rfl xla0))]
  exact uX12_empty hq
