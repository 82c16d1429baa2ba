/-! PascalHouseModel, walked (10) -/
set_option maxRecDepth 100000 in
theorem dX12_negate_0 : decode cX12_negate 0 = .ok (.aload_n 0, 1) := by decide +kernel
set_option maxRecDepth 100000 in
theorem dX12_negate_1 : decode cX12_negate 1 = .ok (.aload_n 0, 1) := by decide +kernel
set_option maxRecDepth 100000 in
theorem dX12_negate_2 : decode cX12_negate 2 = .ok (.getfield 1145, 3) := by decide +kernel
set_option maxRecDepth 100000 in
theorem dX12_negate_5 : decode cX12_negate 5 = .ok (.lneg, 1) := by decide +kernel
set_option maxRecDepth 100000 in
theorem dX12_negate_6 : decode cX12_negate 6 = .ok (.putfield 1145, 3) := by decide +kernel
set_option maxRecDepth 100000 in
theorem dX12_negate_9 : decode cX12_negate 9 = .ok (.aload_n 0, 1) := by decide +kernel
set_option maxRecDepth 100000 in
theorem dX12_negate_10 : decode cX12_negate 10 = .ok (.aload_n 0, 1) := by decide +kernel
set_option maxRecDepth 100000 in
theorem dX12_negate_11 : decode cX12_negate 11 = .ok (.getfield 1151, 3) := by decide +kernel
set_option maxRecDepth 100000 in
theorem dX12_negate_14 : decode cX12_negate 14 = .ok (.dneg, 1) := by decide +kernel
set_option maxRecDepth 100000 in
theorem dX12_negate_15 : decode cX12_negate 15 = .ok (.putfield 1151, 3) := by decide +kernel
set_option maxRecDepth 100000 in
theorem dX12_negate_18 : decode cX12_negate 18 = .ok (.return_, 1) := by decide +kernel
set_option maxRecDepth 100000 in
def bX12_negate (G : xG) (fr lo : Nat) (x0 : Nat) (h : xH) (Q : Outcome → xH → Prop) : Prop := tg h x0 = 13 ∧ (∀ h2 : xH, h2 = sJ h x0 3177 (-(fJ h x0 3177)) → (∀ h5 : xH, h5 = sD h2 x0 3179 (FP.dneg (fD h2 x0 3179)) → Q (.returned none) h5))
set_option maxRecDepth 100000 in
theorem uX12_negate {G : xG} {fr lo : Nat} {x0 : Nat} {h : xH} {Q : Outcome → xH → Prop} (hq : bX12_negate G fr lo x0 h Q) : xP G YX12_negate fr lo 0 [(0, rv x0)] [] h Q := by
  unfold bX12_negate at hq
  refine x_aload_n 0 dX12_negate_0 rfl ?_
  refine x_aload_n 0 dX12_negate_1 rfl ?_
  obtain ⟨g1, hq⟩ := hq
  refine x_get (v := .long (fJ h x0 3177)) fdX12_1145 dX12_negate_2 g1 rfl ?_
  refine x_lneg dX12_negate_5 ?_
  obtain ⟨h2, e3⟩ : ∃ y, y = sJ h x0 3177 (-(fJ h x0 3177)) := ⟨_, rfl⟩
  replace hq := hq h2 e3
  refine x_putJ fdX12_1145 dX12_negate_6 g1 (Or.inl (by rw [g1]; rfl)) rfl e3 ?_
  refine x_aload_n 0 dX12_negate_9 rfl ?_
  refine x_aload_n 0 dX12_negate_10 rfl ?_
  have t4 : tg h2 x0 = 13 := by rw [e3]; exact g1
  refine x_get (v := .double (fD h2 x0 3179)) fdX12_1151 dX12_negate_11 t4 rfl ?_
  refine x_dneg dX12_negate_14 ?_
  obtain ⟨h5, e6⟩ : ∃ y, y = sD h2 x0 3179 (FP.dneg (fD h2 x0 3179)) := ⟨_, rfl⟩
  replace hq := hq h5 e6
  refine x_putD fdX12_1151 dX12_negate_15 t4 (Or.inl (by rw [t4]; rfl)) rfl e6 ?_
  exact x_vret rfl dX12_negate_18 hq
theorem rX12_negate {G : xG} {fr lo : Nat} {x0 : Nat} {h : xH} {Q : Outcome → xH → Prop} (hq : bX12_negate G fr lo x0 h Q) : xR G YX12_negate fr lo [rv x0] h Q := by
  show xP _ _ _ _ _ (lv_args 0 _) _ _ _
  rw [show lv_args 0 [rv x0] = [(0, rv x0)] from (xla1 (rv_cat _) xla0)]
  exact uX12_negate hq
set_option maxRecDepth 100000 in
theorem dX12_relate_0 : decode cX12_relate 0 = .ok (.aload_n 0, 1) := by decide +kernel
set_option maxRecDepth 100000 in
theorem dX12_relate_1 : decode cX12_relate 1 = .ok (.getfield 26, 3) := by decide +kernel
set_option maxRecDepth 100000 in
theorem dX12_relate_4 : decode cX12_relate 4 = .ok (.iload 10, 2) := by decide +kernel
set_option maxRecDepth 100000 in
theorem dX12_relate_6 : decode cX12_relate 6 = .ok (.iaload, 1) := by decide +kernel
set_option maxRecDepth 100000 in
theorem dX12_relate_7 : decode cX12_relate 7 = .ok (.istore 11, 2) := by decide +kernel
set_option maxRecDepth 100000 in
theorem dX12_relate_9 : decode cX12_relate 9 = .ok (.aload 8, 2) := by decide +kernel
set_option maxRecDepth 100000 in
theorem dX12_relate_11 : decode cX12_relate 11 = .ok (.invokevirtual 1050, 3) := by decide +kernel
set_option maxRecDepth 100000 in
theorem dX12_relate_14 : decode cX12_relate 14 = .ok (.istore 13, 2) := by decide +kernel
set_option maxRecDepth 100000 in
theorem dX12_relate_16 : decode cX12_relate 16 = .ok (.iload 11, 2) := by decide +kernel
set_option maxRecDepth 100000 in
theorem dX12_relate_18 : decode cX12_relate 18 = .ok (.bipush 16, 2) := by decide +kernel
set_option maxRecDepth 100000 in
theorem dX12_relate_20 : decode cX12_relate 20 = .ok (.if_icmp .ne 63, 3) := by decide +kernel
set_option maxRecDepth 100000 in
theorem dX12_relate_23 : decode cX12_relate 23 = .ok (.lload_n 1, 1) := by decide +kernel
set_option maxRecDepth 100000 in
theorem dX12_relate_24 : decode cX12_relate 24 = .ok (.lconst 0, 1) := by decide +kernel
set_option maxRecDepth 100000 in
theorem dX12_relate_25 : decode cX12_relate 25 = .ok (.lcmp, 1) := by decide +kernel
set_option maxRecDepth 100000 in
theorem dX12_relate_26 : decode cX12_relate 26 = .ok (.ifCond .lt 51, 3) := by decide +kernel
set_option maxRecDepth 100000 in
theorem dX12_relate_29 : decode cX12_relate 29 = .ok (.lload_n 1, 1) := by decide +kernel
set_option maxRecDepth 100000 in
theorem dX12_relate_30 : decode cX12_relate 30 = .ok (.ldc2_w 1289, 3) := by decide +kernel
set_option maxRecDepth 100000 in
theorem dX12_relate_33 : decode cX12_relate 33 = .ok (.lcmp, 1) := by decide +kernel
set_option maxRecDepth 100000 in
theorem dX12_relate_34 : decode cX12_relate 34 = .ok (.ifCond .ge 43, 3) := by decide +kernel
set_option maxRecDepth 100000 in
theorem dX12_relate_37 : decode cX12_relate 37 = .ok (.lload_n 1, 1) := by decide +kernel
set_option maxRecDepth 100000 in
theorem dX12_relate_38 : decode cX12_relate 38 = .ok (.ldc2_w 1291, 3) := by decide +kernel
set_option maxRecDepth 100000 in
theorem dX12_relate_41 : decode cX12_relate 41 = .ok (.lcmp, 1) := by decide +kernel
set_option maxRecDepth 100000 in
theorem dX12_relate_42 : decode cX12_relate 42 = .ok (.ifCond .ge 13, 3) := by decide +kernel
set_option maxRecDepth 100000 in
theorem dX12_relate_45 : decode cX12_relate 45 = .ok (.aload_n 0, 1) := by decide +kernel
set_option maxRecDepth 100000 in
theorem dX12_relate_46 : decode cX12_relate 46 = .ok (.getfield 1145, 3) := by decide +kernel
set_option maxRecDepth 100000 in
theorem dX12_relate_49 : decode cX12_relate 49 = .ok (.lload_n 1, 1) := by decide +kernel
set_option maxRecDepth 100000 in
theorem dX12_relate_50 : decode cX12_relate 50 = .ok (.l2i, 1) := by decide +kernel
set_option maxRecDepth 100000 in
theorem dX12_relate_51 : decode cX12_relate 51 = .ok (.lshr, 1) := by decide +kernel
set_option maxRecDepth 100000 in
theorem dX12_relate_52 : decode cX12_relate 52 = .ok (.goto 14, 3) := by decide +kernel
set_option maxRecDepth 100000 in
theorem dX12_relate_55 : decode cX12_relate 55 = .ok (.aload_n 0, 1) := by decide +kernel
set_option maxRecDepth 100000 in
theorem dX12_relate_56 : decode cX12_relate 56 = .ok (.getfield 1148, 3) := by decide +kernel
set_option maxRecDepth 100000 in
theorem dX12_relate_59 : decode cX12_relate 59 = .ok (.lload_n 1, 1) := by decide +kernel
set_option maxRecDepth 100000 in
theorem dX12_relate_60 : decode cX12_relate 60 = .ok (.ldc2_w 1291, 3) := by decide +kernel
set_option maxRecDepth 100000 in
theorem dX12_relate_63 : decode cX12_relate 63 = .ok (.lsub, 1) := by decide +kernel
set_option maxRecDepth 100000 in
theorem dX12_relate_64 : decode cX12_relate 64 = .ok (.l2i, 1) := by decide +kernel
set_option maxRecDepth 100000 in
theorem dX12_relate_65 : decode cX12_relate 65 = .ok (.lshr, 1) := by decide +kernel
set_option maxRecDepth 100000 in
theorem dX12_relate_66 : decode cX12_relate 66 = .ok (.lconst 1, 1) := by decide +kernel
set_option maxRecDepth 100000 in
theorem dX12_relate_67 : decode cX12_relate 67 = .ok (.land, 1) := by decide +kernel
set_option maxRecDepth 100000 in
theorem dX12_relate_68 : decode cX12_relate 68 = .ok (.lconst 1, 1) := by decide +kernel
set_option maxRecDepth 100000 in
theorem dX12_relate_69 : decode cX12_relate 69 = .ok (.lcmp, 1) := by decide +kernel
set_option maxRecDepth 100000 in
theorem dX12_relate_70 : decode cX12_relate 70 = .ok (.ifCond .ne 7, 3) := by decide +kernel
set_option maxRecDepth 100000 in
theorem dX12_relate_73 : decode cX12_relate 73 = .ok (.iconst 1, 1) := by decide +kernel
set_option maxRecDepth 100000 in
theorem dX12_relate_74 : decode cX12_relate 74 = .ok (.goto 4, 3) := by decide +kernel
set_option maxRecDepth 100000 in
theorem dX12_relate_77 : decode cX12_relate 77 = .ok (.iconst 0, 1) := by decide +kernel
set_option maxRecDepth 100000 in
theorem dX12_relate_78 : decode cX12_relate 78 = .ok (.istore 12, 2) := by decide +kernel
set_option maxRecDepth 100000 in
theorem dX12_relate_80 : decode cX12_relate 80 = .ok (.goto 407, 3) := by decide +kernel
set_option maxRecDepth 100000 in
theorem dX12_relate_83 : decode cX12_relate 83 = .ok (.aload 8, 2) := by decide +kernel
set_option maxRecDepth 100000 in
theorem dX12_relate_85 : decode cX12_relate 85 = .ok (.getfield 845, 3) := by decide +kernel
set_option maxRecDepth 100000 in
theorem dX12_relate_88 : decode cX12_relate 88 = .ok (.bipush 9, 2) := by decide +kernel
set_option maxRecDepth 100000 in
theorem dX12_relate_90 : decode cX12_relate 90 = .ok (.if_icmp .ne 141, 3) := by decide +kernel
set_option maxRecDepth 100000 in
theorem dX12_relate_93 : decode cX12_relate 93 = .ok (.lload_n 1, 1) := by decide +kernel
set_option maxRecDepth 100000 in
theorem dX12_relate_94 : decode cX12_relate 94 = .ok (.aload_n 0, 1) := by decide +kernel
set_option maxRecDepth 100000 in
theorem dX12_relate_95 : decode cX12_relate 95 = .ok (.getfield 1145, 3) := by decide +kernel
set_option maxRecDepth 100000 in
theorem dX12_relate_98 : decode cX12_relate 98 = .ok (.ldc2_w 1160, 3) := by decide +kernel
set_option maxRecDepth 100000 in
theorem dX12_relate_101 : decode cX12_relate 101 = .ok (.lxor, 1) := by decide +kernel
set_option maxRecDepth 100000 in
theorem dX12_relate_102 : decode cX12_relate 102 = .ok (.land, 1) := by decide +kernel
set_option maxRecDepth 100000 in
theorem dX12_relate_103 : decode cX12_relate 103 = .ok (.lconst 0, 1) := by decide +kernel
set_option maxRecDepth 100000 in
theorem dX12_relate_104 : decode cX12_relate 104 = .ok (.lcmp, 1) := by decide +kernel
set_option maxRecDepth 100000 in
theorem dX12_relate_105 : decode cX12_relate 105 = .ok (.ifCond .ne 22, 3) := by decide +kernel
set_option maxRecDepth 100000 in
theorem dX12_relate_108 : decode cX12_relate 108 = .ok (.lload_n 3, 1) := by decide +kernel
set_option maxRecDepth 100000 in
theorem dX12_relate_109 : decode cX12_relate 109 = .ok (.aload_n 0, 1) := by decide +kernel
set_option maxRecDepth 100000 in
theorem dX12_relate_110 : decode cX12_relate 110 = .ok (.getfield 1148, 3) := by decide +kernel
set_option maxRecDepth 100000 in
theorem dX12_relate_113 : decode cX12_relate 113 = .ok (.ldc2_w 1160, 3) := by decide +kernel
set_option maxRecDepth 100000 in
theorem dX12_relate_116 : decode cX12_relate 116 = .ok (.lxor, 1) := by decide +kernel
set_option maxRecDepth 100000 in
theorem dX12_relate_117 : decode cX12_relate 117 = .ok (.land, 1) := by decide +kernel
set_option maxRecDepth 100000 in
theorem dX12_relate_118 : decode cX12_relate 118 = .ok (.lconst 0, 1) := by decide +kernel
set_option maxRecDepth 100000 in
theorem dX12_relate_119 : decode cX12_relate 119 = .ok (.lcmp, 1) := by decide +kernel
set_option maxRecDepth 100000 in
theorem dX12_relate_120 : decode cX12_relate 120 = .ok (.ifCond .ne 7, 3) := by decide +kernel
set_option maxRecDepth 100000 in
theorem dX12_relate_123 : decode cX12_relate 123 = .ok (.iconst 1, 1) := by decide +kernel
set_option maxRecDepth 100000 in
theorem dX12_relate_124 : decode cX12_relate 124 = .ok (.goto 4, 3) := by decide +kernel
set_option maxRecDepth 100000 in
theorem dX12_relate_127 : decode cX12_relate 127 = .ok (.iconst 0, 1) := by decide +kernel
set_option maxRecDepth 100000 in
theorem dX12_relate_128 : decode cX12_relate 128 = .ok (.istore 14, 2) := by decide +kernel
set_option maxRecDepth 100000 in
theorem dX12_relate_130 : decode cX12_relate 130 = .ok (.aload_n 0, 1) := by decide +kernel
set_option maxRecDepth 100000 in
theorem dX12_relate_131 : decode cX12_relate 131 = .ok (.getfield 1145, 3) := by decide +kernel
set_option maxRecDepth 100000 in
theorem dX12_relate_134 : decode cX12_relate 134 = .ok (.lload_n 1, 1) := by decide +kernel
set_option maxRecDepth 100000 in
theorem dX12_relate_135 : decode cX12_relate 135 = .ok (.ldc2_w 1160, 3) := by decide +kernel
set_option maxRecDepth 100000 in
theorem dX12_relate_138 : decode cX12_relate 138 = .ok (.lxor, 1) := by decide +kernel
set_option maxRecDepth 100000 in
theorem dX12_relate_139 : decode cX12_relate 139 = .ok (.land, 1) := by decide +kernel
set_option maxRecDepth 100000 in
theorem dX12_relate_140 : decode cX12_relate 140 = .ok (.lconst 0, 1) := by decide +kernel
set_option maxRecDepth 100000 in
theorem dX12_relate_141 : decode cX12_relate 141 = .ok (.lcmp, 1) := by decide +kernel
set_option maxRecDepth 100000 in
theorem dX12_relate_142 : decode cX12_relate 142 = .ok (.ifCond .ne 22, 3) := by decide +kernel
set_option maxRecDepth 100000 in
theorem dX12_relate_145 : decode cX12_relate 145 = .ok (.aload_n 0, 1) := by decide +kernel
set_option maxRecDepth 100000 in
theorem dX12_relate_146 : decode cX12_relate 146 = .ok (.getfield 1148, 3) := by decide +kernel
set_option maxRecDepth 100000 in
theorem dX12_relate_149 : decode cX12_relate 149 = .ok (.lload_n 3, 1) := by decide +kernel
set_option maxRecDepth 100000 in
theorem dX12_relate_150 : decode cX12_relate 150 = .ok (.ldc2_w 1160, 3) := by decide +kernel
set_option maxRecDepth 100000 in
theorem dX12_relate_153 : decode cX12_relate 153 = .ok (.lxor, 1) := by decide +kernel
set_option maxRecDepth 100000 in
theorem dX12_relate_154 : decode cX12_relate 154 = .ok (.land, 1) := by decide +kernel
set_option maxRecDepth 100000 in
theorem dX12_relate_155 : decode cX12_relate 155 = .ok (.lconst 0, 1) := by decide +kernel
set_option maxRecDepth 100000 in
theorem dX12_relate_156 : decode cX12_relate 156 = .ok (.lcmp, 1) := by decide +kernel
set_option maxRecDepth 100000 in
theorem dX12_relate_157 : decode cX12_relate 157 = .ok (.ifCond .ne 7, 3) := by decide +kernel
set_option maxRecDepth 100000 in
theorem dX12_relate_160 : decode cX12_relate 160 = .ok (.iconst 1, 1) := by decide +kernel
set_option maxRecDepth 100000 in
theorem dX12_relate_161 : decode cX12_relate 161 = .ok (.goto 4, 3) := by decide +kernel
set_option maxRecDepth 100000 in
theorem dX12_relate_164 : decode cX12_relate 164 = .ok (.iconst 0, 1) := by decide +kernel
set_option maxRecDepth 100000 in
theorem dX12_relate_165 : decode cX12_relate 165 = .ok (.istore 15, 2) := by decide +kernel
set_option maxRecDepth 100000 in
theorem dX12_relate_167 : decode cX12_relate 167 = .ok (.iload 11, 2) := by decide +kernel
set_option maxRecDepth 100000 in
theorem dX12_relate_169 : decode cX12_relate 169 = .ok (.bipush 57, 2) := by decide +kernel
set_option maxRecDepth 100000 in
theorem dX12_relate_171 : decode cX12_relate 171 = .ok (.if_icmp .ne 8, 3) := by decide +kernel
set_option maxRecDepth 100000 in
theorem dX12_relate_174 : decode cX12_relate 174 = .ok (.iload 14, 2) := by decide +kernel
set_option maxRecDepth 100000 in
theorem dX12_relate_176 : decode cX12_relate 176 = .ok (.goto 50, 3) := by decide +kernel
set_option maxRecDepth 100000 in
theorem dX12_relate_179 : decode cX12_relate 179 = .ok (.iload 11, 2) := by decide +kernel
set_option maxRecDepth 100000 in
theorem dX12_relate_181 : decode cX12_relate 181 = .ok (.bipush 58, 2) := by decide +kernel
set_option maxRecDepth 100000 in
theorem dX12_relate_183 : decode cX12_relate 183 = .ok (.if_icmp .ne 8, 3) := by decide +kernel
set_option maxRecDepth 100000 in
theorem dX12_relate_186 : decode cX12_relate 186 = .ok (.iload 15, 2) := by decide +kernel
set_option maxRecDepth 100000 in
theorem dX12_relate_188 : decode cX12_relate 188 = .ok (.goto 38, 3) := by decide +kernel
set_option maxRecDepth 100000 in
theorem dX12_relate_191 : decode cX12_relate 191 = .ok (.iload 14, 2) := by decide +kernel
set_option maxRecDepth 100000 in
theorem dX12_relate_193 : decode cX12_relate 193 = .ok (.ifCond .eq 12, 3) := by decide +kernel
set_option maxRecDepth 100000 in
theorem dX12_relate_196 : decode cX12_relate 196 = .ok (.iload 15, 2) := by decide +kernel
set_option maxRecDepth 100000 in
theorem dX12_relate_198 : decode cX12_relate 198 = .ok (.ifCond .eq 7, 3) := by decide +kernel
set_option maxRecDepth 100000 in
theorem dX12_relate_201 : decode cX12_relate 201 = .ok (.iconst 1, 1) := by decide +kernel
set_option maxRecDepth 100000 in
theorem dX12_relate_202 : decode cX12_relate 202 = .ok (.goto 4, 3) := by decide +kernel
set_option maxRecDepth 100000 in
theorem dX12_relate_205 : decode cX12_relate 205 = .ok (.iconst 0, 1) := by decide +kernel
set_option maxRecDepth 100000 in
theorem dX12_relate_206 : decode cX12_relate 206 = .ok (.iload 11, 2) := by decide +kernel
set_option maxRecDepth 100000 in
theorem dX12_relate_208 : decode cX12_relate 208 = .ok (.bipush 54, 2) := by decide +kernel
set_option maxRecDepth 100000 in
theorem dX12_relate_210 : decode cX12_relate 210 = .ok (.if_icmp .ne 7, 3) := by decide +kernel
set_option maxRecDepth 100000 in
theorem dX12_relate_213 : decode cX12_relate 213 = .ok (.iconst 1, 1) := by decide +kernel
set_option maxRecDepth 100000 in
theorem dX12_relate_214 : decode cX12_relate 214 = .ok (.goto 4, 3) := by decide +kernel
set_option maxRecDepth 100000 in
theorem dX12_relate_217 : decode cX12_relate 217 = .ok (.iconst 0, 1) := by decide +kernel
set_option maxRecDepth 100000 in
theorem dX12_relate_218 : decode cX12_relate 218 = .ok (.if_icmp .ne 7, 3) := by decide +kernel
set_option maxRecDepth 100000 in
theorem dX12_relate_221 : decode cX12_relate 221 = .ok (.iconst 1, 1) := by decide +kernel
set_option maxRecDepth 100000 in
theorem dX12_relate_222 : decode cX12_relate 222 = .ok (.goto 4, 3) := by decide +kernel
set_option maxRecDepth 100000 in
theorem dX12_relate_225 : decode cX12_relate 225 = .ok (.iconst 0, 1) := by decide +kernel
set_option maxRecDepth 100000 in
theorem dX12_relate_226 : decode cX12_relate 226 = .ok (.istore 12, 2) := by decide +kernel
set_option maxRecDepth 100000 in
theorem dX12_relate_228 : decode cX12_relate 228 = .ok (.goto 259, 3) := by decide +kernel
set_option maxRecDepth 100000 in
theorem dX12_relate_231 : decode cX12_relate 231 = .ok (.iload 13, 2) := by decide +kernel
set_option maxRecDepth 100000 in
theorem dX12_relate_233 : decode cX12_relate 233 = .ok (.ifCond .le 126, 3) := by decide +kernel
set_option maxRecDepth 100000 in
theorem dX12_relate_236 : decode cX12_relate 236 = .ok (.iload 13, 2) := by decide +kernel
set_option maxRecDepth 100000 in
theorem dX12_relate_238 : decode cX12_relate 238 = .ok (.aload_n 0, 1) := by decide +kernel
set_option maxRecDepth 100000 in
theorem dX12_relate_239 : decode cX12_relate 239 = .ok (.getfield 1223, 3) := by decide +kernel
set_option maxRecDepth 100000 in
theorem dX12_relate_242 : decode cX12_relate 242 = .ok (.aload_n 0, 1) := by decide +kernel
set_option maxRecDepth 100000 in
theorem dX12_relate_243 : decode cX12_relate 243 = .ok (.getfield 1226, 3) := by decide +kernel
set_option maxRecDepth 100000 in
theorem dX12_relate_246 : decode cX12_relate 246 = .ok (.isub, 1) := by decide +kernel
set_option maxRecDepth 100000 in
theorem dX12_relate_247 : decode cX12_relate 247 = .ok (.if_icmp .le 12, 3) := by decide +kernel
set_option maxRecDepth 100000 in
theorem dX12_relate_250 : decode cX12_relate 250 = .ok (.aload_n 0, 1) := by decide +kernel
set_option maxRecDepth 100000 in
theorem dX12_relate_251 : decode cX12_relate 251 = .ok (.bipush 15, 2) := by decide +kernel
set_option maxRecDepth 100000 in
theorem dX12_relate_253 : decode cX12_relate 253 = .ok (.iload 10, 2) := by decide +kernel
set_option maxRecDepth 100000 in
theorem dX12_relate_255 : decode cX12_relate 255 = .ok (.invokevirtual 1142, 3) := by decide +kernel
set_option maxRecDepth 100000 in
theorem dX12_relate_258 : decode cX12_relate 258 = .ok (.return_, 1) := by decide +kernel
set_option maxRecDepth 100000 in
theorem dX12_relate_259 : decode cX12_relate 259 = .ok (.aload_n 0, 1) := by decide +kernel
set_option maxRecDepth 100000 in
theorem dX12_relate_260 : decode cX12_relate 260 = .ok (.dup, 1) := by decide +kernel
set_option maxRecDepth 100000 in
theorem dX12_relate_261 : decode cX12_relate 261 = .ok (.getfield 1226, 3) := by decide +kernel
set_option maxRecDepth 100000 in
theorem dX12_relate_264 : decode cX12_relate 264 = .ok (.iload 13, 2) := by decide +kernel
set_option maxRecDepth 100000 in
theorem dX12_relate_266 : decode cX12_relate 266 = .ok (.iadd, 1) := by decide +kernel
set_option maxRecDepth 100000 in
theorem dX12_relate_267 : decode cX12_relate 267 = .ok (.putfield 1226, 3) := by decide +kernel
set_option maxRecDepth 100000 in
theorem dX12_relate_270 : decode cX12_relate 270 = .ok (.aload_n 0, 1) := by decide +kernel
set_option maxRecDepth 100000 in
theorem dX12_relate_271 : decode cX12_relate 271 = .ok (.iload 7, 2) := by decide +kernel
set_option maxRecDepth 100000 in
theorem dX12_relate_273 : decode cX12_relate 273 = .ok (.iload 13, 2) := by decide +kernel
set_option maxRecDepth 100000 in
theorem dX12_relate_275 : decode cX12_relate 275 = .ok (.invokevirtual 1293, 3) := by decide +kernel
set_option maxRecDepth 100000 in
theorem dX12_relate_278 : decode cX12_relate 278 = .ok (.ifCond .eq 16, 3) := by decide +kernel
set_option maxRecDepth 100000 in
theorem dX12_relate_281 : decode cX12_relate 281 = .ok (.aload_n 0, 1) := by decide +kernel
set_option maxRecDepth 100000 in
theorem dX12_relate_282 : decode cX12_relate 282 = .ok (.aload_n 0, 1) := by decide +kernel
set_option maxRecDepth 100000 in
theorem dX12_relate_283 : decode cX12_relate 283 = .ok (.getfield 1136, 3) := by decide +kernel
set_option maxRecDepth 100000 in
theorem dX12_relate_286 : decode cX12_relate 286 = .ok (.iload 13, 2) := by decide +kernel
set_option maxRecDepth 100000 in
theorem dX12_relate_288 : decode cX12_relate 288 = .ok (.invokevirtual 1293, 3) := by decide +kernel
set_option maxRecDepth 100000 in
theorem dX12_relate_291 : decode cX12_relate 291 = .ok (.ifCond .ne 11, 3) := by decide +kernel
set_option maxRecDepth 100000 in
theorem dX12_relate_294 : decode cX12_relate 294 = .ok (.aload_n 0, 1) := by decide +kernel
set_option maxRecDepth 100000 in
theorem dX12_relate_295 : decode cX12_relate 295 = .ok (.iconst 5, 1) := by decide +kernel
set_option maxRecDepth 100000 in
theorem dX12_relate_296 : decode cX12_relate 296 = .ok (.iload 10, 2) := by decide +kernel
set_option maxRecDepth 100000 in
theorem dX12_relate_298 : decode cX12_relate 298 = .ok (.invokevirtual 1142, 3) := by decide +kernel
set_option maxRecDepth 100000 in
theorem dX12_relate_301 : decode cX12_relate 301 = .ok (.return_, 1) := by decide +kernel
set_option maxRecDepth 100000 in
theorem dX12_relate_302 : decode cX12_relate 302 = .ok (.iconst 0, 1) := by decide +kernel
set_option maxRecDepth 100000 in
theorem dX12_relate_303 : decode cX12_relate 303 = .ok (.istore 14, 2) := by decide +kernel
set_option maxRecDepth 100000 in
theorem dX12_relate_305 : decode cX12_relate 305 = .ok (.iconst 0, 1) := by decide +kernel
set_option maxRecDepth 100000 in
theorem dX12_relate_306 : decode cX12_relate 306 = .ok (.istore 15, 2) := by decide +kernel
set_option maxRecDepth 100000 in
theorem dX12_relate_308 : decode cX12_relate 308 = .ok (.iload 15, 2) := by decide +kernel
set_option maxRecDepth 100000 in
theorem dX12_relate_310 : decode cX12_relate 310 = .ok (.iload 13, 2) := by decide +kernel
set_option maxRecDepth 100000 in
theorem dX12_relate_312 : decode cX12_relate 312 = .ok (.if_icmp .ge 35, 3) := by decide +kernel
set_option maxRecDepth 100000 in
theorem dX12_relate_315 : decode cX12_relate 315 = .ok (.iload 14, 2) := by decide +kernel
set_option maxRecDepth 100000 in
theorem dX12_relate_317 : decode cX12_relate 317 = .ok (.ifCond .ne 30, 3) := by decide +kernel
set_option maxRecDepth 100000 in
theorem dX12_relate_320 : decode cX12_relate 320 = .ok (.aload_n 0, 1) := by decide +kernel
set_option maxRecDepth 100000 in
theorem dX12_relate_321 : decode cX12_relate 321 = .ok (.iload 7, 2) := by decide +kernel
set_option maxRecDepth 100000 in
theorem dX12_relate_323 : decode cX12_relate 323 = .ok (.iload 15, 2) := by decide +kernel
set_option maxRecDepth 100000 in
theorem dX12_relate_325 : decode cX12_relate 325 = .ok (.invokevirtual 1296, 3) := by decide +kernel
set_option maxRecDepth 100000 in
theorem dX12_relate_328 : decode cX12_relate 328 = .ok (.aload_n 0, 1) := by decide +kernel
set_option maxRecDepth 100000 in
theorem dX12_relate_329 : decode cX12_relate 329 = .ok (.aload_n 0, 1) := by decide +kernel
set_option maxRecDepth 100000 in
theorem dX12_relate_330 : decode cX12_relate 330 = .ok (.getfield 1136, 3) := by decide +kernel
set_option maxRecDepth 100000 in
theorem dX12_relate_333 : decode cX12_relate 333 = .ok (.iload 15, 2) := by decide +kernel
set_option maxRecDepth 100000 in
theorem dX12_relate_335 : decode cX12_relate 335 = .ok (.invokevirtual 1296, 3) := by decide +kernel
set_option maxRecDepth 100000 in
theorem dX12_relate_338 : decode cX12_relate 338 = .ok (.isub, 1) := by decide +kernel
set_option maxRecDepth 100000 in
theorem dX12_relate_339 : decode cX12_relate 339 = .ok (.istore 14, 2) := by decide +kernel
set_option maxRecDepth 100000 in
theorem dX12_relate_341 : decode cX12_relate 341 = .ok (.iinc 15 1, 3) := by decide +kernel
set_option maxRecDepth 100000 in
theorem dX12_relate_344 : decode cX12_relate 344 = .ok (.goto (-36), 3) := by decide +kernel
set_option maxRecDepth 100000 in
theorem dX12_relate_347 : decode cX12_relate 347 = .ok (.iload 11, 2) := by decide +kernel
set_option maxRecDepth 100000 in
theorem dX12_relate_349 : decode cX12_relate 349 = .ok (.iload 14, 2) := by decide +kernel
set_option maxRecDepth 100000 in
theorem dX12_relate_351 : decode cX12_relate 351 = .ok (.invokestatic 1299, 3) := by decide +kernel
set_option maxRecDepth 100000 in
theorem dX12_relate_354 : decode cX12_relate 354 = .ok (.istore 12, 2) := by decide +kernel
set_option maxRecDepth 100000 in
theorem dX12_relate_356 : decode cX12_relate 356 = .ok (.goto 131, 3) := by decide +kernel
set_option maxRecDepth 100000 in
theorem dX12_relate_359 : decode cX12_relate 359 = .ok (.aload 8, 2) := by decide +kernel
set_option maxRecDepth 100000 in
theorem dX12_relate_361 : decode cX12_relate 361 = .ok (.getfield 845, 3) := by decide +kernel
set_option maxRecDepth 100000 in
theorem dX12_relate_364 : decode cX12_relate 364 = .ok (.iconst 2, 1) := by decide +kernel
set_option maxRecDepth 100000 in
theorem dX12_relate_365 : decode cX12_relate 365 = .ok (.if_icmp .eq 12, 3) := by decide +kernel
set_option maxRecDepth 100000 in
theorem dX12_relate_368 : decode cX12_relate 368 = .ok (.aload 9, 2) := by decide +kernel
set_option maxRecDepth 100000 in
theorem dX12_relate_370 : decode cX12_relate 370 = .ok (.getfield 845, 3) := by decide +kernel
set_option maxRecDepth 100000 in
theorem dX12_relate_373 : decode cX12_relate 373 = .ok (.iconst 2, 1) := by decide +kernel
set_option maxRecDepth 100000 in
theorem dX12_relate_374 : decode cX12_relate 374 = .ok (.if_icmp .ne 79, 3) := by decide +kernel
set_option maxRecDepth 100000 in
theorem dX12_relate_377 : decode cX12_relate 377 = .ok (.aload 8, 2) := by decide +kernel
set_option maxRecDepth 100000 in
theorem dX12_relate_379 : decode cX12_relate 379 = .ok (.getfield 845, 3) := by decide +kernel
set_option maxRecDepth 100000 in
theorem dX12_relate_382 : decode cX12_relate 382 = .ok (.iconst 2, 1) := by decide +kernel
set_option maxRecDepth 100000 in
theorem dX12_relate_383 : decode cX12_relate 383 = .ok (.if_icmp .ne 8, 3) := by decide +kernel
set_option maxRecDepth 100000 in
theorem dX12_relate_386 : decode cX12_relate 386 = .ok (.dload 5, 2) := by decide +kernel
set_option maxRecDepth 100000 in
theorem dX12_relate_388 : decode cX12_relate 388 = .ok (.goto 5, 3) := by decide +kernel
set_option maxRecDepth 100000 in
theorem dX12_relate_391 : decode cX12_relate 391 = .ok (.lload_n 1, 1) := by decide +kernel
set_option maxRecDepth 100000 in
theorem dX12_relate_392 : decode cX12_relate 392 = .ok (.l2d, 1) := by decide +kernel
set_option maxRecDepth 100000 in
theorem dX12_relate_393 : decode cX12_relate 393 = .ok (.dstore 14, 2) := by decide +kernel
set_option maxRecDepth 100000 in
theorem dX12_relate_395 : decode cX12_relate 395 = .ok (.aload 9, 2) := by decide +kernel
set_option maxRecDepth 100000 in
theorem dX12_relate_397 : decode cX12_relate 397 = .ok (.getfield 845, 3) := by decide +kernel
set_option maxRecDepth 100000 in
theorem dX12_relate_400 : decode cX12_relate 400 = .ok (.iconst 2, 1) := by decide +kernel
set_option maxRecDepth 100000 in
theorem dX12_relate_401 : decode cX12_relate 401 = .ok (.if_icmp .ne 10, 3) := by decide +kernel
set_option maxRecDepth 100000 in
theorem dX12_relate_404 : decode cX12_relate 404 = .ok (.aload_n 0, 1) := by decide +kernel
set_option maxRecDepth 100000 in
theorem dX12_relate_405 : decode cX12_relate 405 = .ok (.getfield 1151, 3) := by decide +kernel
set_option maxRecDepth 100000 in
theorem dX12_relate_408 : decode cX12_relate 408 = .ok (.goto 8, 3) := by decide +kernel
set_option maxRecDepth 100000 in
theorem dX12_relate_411 : decode cX12_relate 411 = .ok (.aload_n 0, 1) := by decide +kernel
set_option maxRecDepth 100000 in
theorem dX12_relate_412 : decode cX12_relate 412 = .ok (.getfield 1145, 3) := by decide +kernel
set_option maxRecDepth 100000 in
theorem dX12_relate_415 : decode cX12_relate 415 = .ok (.l2d, 1) := by decide +kernel
set_option maxRecDepth 100000 in
theorem dX12_relate_416 : decode cX12_relate 416 = .ok (.dstore 16, 2) := by decide +kernel
set_option maxRecDepth 100000 in
theorem dX12_relate_418 : decode cX12_relate 418 = .ok (.iload 11, 2) := by decide +kernel
set_option maxRecDepth 100000 in
theorem dX12_relate_420 : decode cX12_relate 420 = .ok (.dload 14, 2) := by decide +kernel
set_option maxRecDepth 100000 in
theorem dX12_relate_422 : decode cX12_relate 422 = .ok (.dload 16, 2) := by decide +kernel
set_option maxRecDepth 100000 in
theorem dX12_relate_424 : decode cX12_relate 424 = .ok (.dcmp .g, 1) := by decide +kernel
set_option maxRecDepth 100000 in
theorem dX12_relate_425 : decode cX12_relate 425 = .ok (.ifCond .ge 7, 3) := by decide +kernel
set_option maxRecDepth 100000 in
theorem dX12_relate_428 : decode cX12_relate 428 = .ok (.iconst (-1), 1) := by decide +kernel
set_option maxRecDepth 100000 in
theorem dX12_relate_429 : decode cX12_relate 429 = .ok (.goto 16, 3) := by decide +kernel
set_option maxRecDepth 100000 in
theorem dX12_relate_432 : decode cX12_relate 432 = .ok (.dload 14, 2) := by decide +kernel
set_option maxRecDepth 100000 in
theorem dX12_relate_434 : decode cX12_relate 434 = .ok (.dload 16, 2) := by decide +kernel
set_option maxRecDepth 100000 in
theorem dX12_relate_436 : decode cX12_relate 436 = .ok (.dcmp .l, 1) := by decide +kernel
set_option maxRecDepth 100000 in
theorem dX12_relate_437 : decode cX12_relate 437 = .ok (.ifCond .le 7, 3) := by decide +kernel
set_option maxRecDepth 100000 in
theorem dX12_relate_440 : decode cX12_relate 440 = .ok (.iconst 1, 1) := by decide +kernel
set_option maxRecDepth 100000 in
theorem dX12_relate_441 : decode cX12_relate 441 = .ok (.goto 4, 3) := by decide +kernel
set_option maxRecDepth 100000 in
theorem dX12_relate_444 : decode cX12_relate 444 = .ok (.iconst 0, 1) := by decide +kernel
set_option maxRecDepth 100000 in
theorem dX12_relate_445 : decode cX12_relate 445 = .ok (.invokestatic 1299, 3) := by decide +kernel
set_option maxRecDepth 100000 in
theorem dX12_relate_448 : decode cX12_relate 448 = .ok (.istore 12, 2) := by decide +kernel
set_option maxRecDepth 100000 in
theorem dX12_relate_450 : decode cX12_relate 450 = .ok (.goto 37, 3) := by decide +kernel
set_option maxRecDepth 100000 in
theorem dX12_relate_453 : decode cX12_relate 453 = .ok (.iload 11, 2) := by decide +kernel
set_option maxRecDepth 100000 in
theorem dX12_relate_455 : decode cX12_relate 455 = .ok (.lload_n 1, 1) := by decide +kernel
set_option maxRecDepth 100000 in
theorem dX12_relate_456 : decode cX12_relate 456 = .ok (.aload_n 0, 1) := by decide +kernel
set_option maxRecDepth 100000 in
theorem dX12_relate_457 : decode cX12_relate 457 = .ok (.getfield 1145, 3) := by decide +kernel
set_option maxRecDepth 100000 in
theorem dX12_relate_460 : decode cX12_relate 460 = .ok (.lcmp, 1) := by decide +kernel
set_option maxRecDepth 100000 in
theorem dX12_relate_461 : decode cX12_relate 461 = .ok (.ifCond .ge 7, 3) := by decide +kernel
set_option maxRecDepth 100000 in
theorem dX12_relate_464 : decode cX12_relate 464 = .ok (.iconst (-1), 1) := by decide +kernel
set_option maxRecDepth 100000 in
theorem dX12_relate_465 : decode cX12_relate 465 = .ok (.goto 17, 3) := by decide +kernel
set_option maxRecDepth 100000 in
theorem dX12_relate_468 : decode cX12_relate 468 = .ok (.lload_n 1, 1) := by decide +kernel
set_option maxRecDepth 100000 in
theorem dX12_relate_469 : decode cX12_relate 469 = .ok (.aload_n 0, 1) := by decide +kernel
set_option maxRecDepth 100000 in
theorem dX12_relate_470 : decode cX12_relate 470 = .ok (.getfield 1145, 3) := by decide +kernel
set_option maxRecDepth 100000 in
theorem dX12_relate_473 : decode cX12_relate 473 = .ok (.lcmp, 1) := by decide +kernel
set_option maxRecDepth 100000 in
theorem dX12_relate_474 : decode cX12_relate 474 = .ok (.ifCond .le 7, 3) := by decide +kernel
set_option maxRecDepth 100000 in
theorem dX12_relate_477 : decode cX12_relate 477 = .ok (.iconst 1, 1) := by decide +kernel
set_option maxRecDepth 100000 in
theorem dX12_relate_478 : decode cX12_relate 478 = .ok (.goto 4, 3) := by decide +kernel
set_option maxRecDepth 100000 in
theorem dX12_relate_481 : decode cX12_relate 481 = .ok (.iconst 0, 1) := by decide +kernel
set_option maxRecDepth 100000 in
theorem dX12_relate_482 : decode cX12_relate 482 = .ok (.invokestatic 1299, 3) := by decide +kernel
set_option maxRecDepth 100000 in
theorem dX12_relate_485 : decode cX12_relate 485 = .ok (.istore 12, 2) := by decide +kernel
set_option maxRecDepth 100000 in
theorem dX12_relate_487 : decode cX12_relate 487 = .ok (.aload_n 0, 1) := by decide +kernel
set_option maxRecDepth 100000 in
theorem dX12_relate_488 : decode cX12_relate 488 = .ok (.iload 12, 2) := by decide +kernel
set_option maxRecDepth 100000 in
theorem dX12_relate_490 : decode cX12_relate 490 = .ok (.ifCond .eq 7, 3) := by decide +kernel
set_option maxRecDepth 100000 in
theorem dX12_relate_493 : decode cX12_relate 493 = .ok (.lconst 1, 1) := by decide +kernel
set_option maxRecDepth 100000 in
theorem dX12_relate_494 : decode cX12_relate 494 = .ok (.goto 4, 3) := by decide +kernel
set_option maxRecDepth 100000 in
theorem dX12_relate_497 : decode cX12_relate 497 = .ok (.lconst 0, 1) := by decide +kernel
set_option maxRecDepth 100000 in
theorem dX12_relate_498 : decode cX12_relate 498 = .ok (.putfield 1145, 3) := by decide +kernel
set_option maxRecDepth 100000 in
theorem dX12_relate_501 : decode cX12_relate 501 = .ok (.return_, 1) := by decide +kernel
def lX12_relate_308 (G : xG) (fr lo : Nat) (x0 : Nat) (x7 : Int32) (x11 : Int32) (x13 : Int32) (x14 : Int32) (x15 : Int32) (h : xH) (Q : Outcome → xH → Prop) : Prop := xP G YX12_relate fr lo 308 [(0, rv x0), (7, .int x7), (11, .int x11), (13, .int x13), (14, .int x14), (15, .int x15)] [] h Q
set_option maxRecDepth 100000 in
def bX12_relate_498 (G : xG) (fr lo : Nat) (s0 : Int64) (s1 : Nat) (h : xH) (Q : Outcome → xH → Prop) : Prop := tg h s1 = 13 ∧ (∀ h2 : xH, h2 = sJ h s1 3177 s0 → Q (.returned none) h2)
set_option maxRecDepth 100000 in
theorem uX12_relate_498 {G : xG} {fr lo : Nat} {s0 : Int64} {s1 : Nat} {h : xH} {Q : Outcome → xH → Prop} (hq : bX12_relate_498 G fr lo s0 s1 h Q) : xP G YX12_relate fr lo 498 [] [.long s0, rv s1] h Q := by
  unfold bX12_relate_498 at hq
  obtain ⟨g1, hq⟩ := hq
  obtain ⟨h2, e3⟩ : ∃ y, y = sJ h s1 3177 s0 := ⟨_, rfl⟩
  replace hq := hq h2 e3
  refine x_putJ fdX12_1145 dX12_relate_498 g1 (Or.inl (by rw [g1]; rfl)) rfl e3 ?_
  exact x_vret rfl dX12_relate_501 hq
set_option maxRecDepth 100000 in
def bX12_relate_487 (G : xG) (fr lo : Nat) (x0 : Nat) (x12 : Int32) (h : xH) (Q : Outcome → xH → Prop) : Prop := ((x12 = 0 → bX12_relate_498 G fr lo 0 x0 h Q) ∧ (¬ x12 = 0 → bX12_relate_498 G fr lo 1 x0 h Q))
set_option maxRecDepth 100000 in
theorem uX12_relate_487 {G : xG} {fr lo : Nat} {x0 : Nat} {x12 : Int32} {h : xH} {Q : Outcome → xH → Prop} (hq : bX12_relate_487 G fr lo x0 x12 h Q) : xP G YX12_relate fr lo 487 [(0, rv x0), (12, .int x12)] [] h Q := by
  unfold bX12_relate_487 at hq
  refine x_aload_n 0 dX12_relate_487 rfl ?_
  refine x_iload 1 dX12_relate_488 rfl ?_
  refine x_if_eq (tgt := 497) dX12_relate_490 (by decide) (fun c1 => ?_) (fun c1 => ?_)
  · replace hq := hq.1 c1
    refine x_lconst (v := 0) dX12_relate_497 (by decide) ?_
    refine xP.pick (lv' := []) [] rfl ?_
    exact uX12_relate_498 hq
  · replace hq := hq.2 c1
    refine x_lconst (v := 1) dX12_relate_493 (by decide) ?_
    refine x_goto (tgt := 498) dX12_relate_494 (by decide) ?_
    refine xP.pick (lv' := []) [] rfl ?_
    exact uX12_relate_498 hq
set_option maxRecDepth 100000 in
def bX12_relate_482 (G : xG) (fr lo : Nat) (x0 : Nat) (s0 : Int32) (s1 : Int32) (h : xH) (Q : Outcome → xH → Prop) : Prop := 1 ≤ fr ∧ 13 ≤ lo ∧ xRi G YX12_holds (fr - 1) (lo - 13) [.int s1, .int s0] h (fun x4 h3 => xext h h3 → bX12_relate_487 G fr lo x0 x4 h3 Q) (fun r h2 => Q (.threw r) h2)
set_option maxRecDepth 100000 in
theorem uX12_relate_482 {G : xG} {fr lo : Nat} {x0 : Nat} {s0 : Int32} {s1 : Int32} {h : xH} {Q : Outcome → xH → Prop} (hq : bX12_relate_482 G fr lo x0 s0 s1 h Q) : xP G YX12_relate fr lo 482 [(0, rv x0)] [.int s0, .int s1] h Q := by
  unfold bX12_relate_482 at hq
  obtain ⟨g1, g2, hq⟩ := hq
  refine x_callS (Yc := YX12_holds) (as := [.int s1, .int s0]) (st := []) q4690 msX12_holds rfl dX12_relate_482 (xle (xal1 rfl (xal1 rfl xal0)) (by decide)) (xfr g1) (xlo xsw0 (by decide) g2) (xKi hq (fun x4 h3 hq e5 => ?_) (fun _ _ q _ => q))
  replace hq := hq e5
  refine x_istore (lv' := [(12, .int x4), (0, rv x0)]) dX12_relate_485 (by decide) rfl ?_
  refine xP.pick (lv' := [(0, rv x0), (12, .int x4)]) [1, 0] rfl ?_
  exact uX12_relate_487 hq
set_option maxRecDepth 100000 in
def bX12_relate_445 (G : xG) (fr lo : Nat) (x0 : Nat) (s0 : Int32) (s1 : Int32) (h : xH) (Q : Outcome → xH → Prop) : Prop := 1 ≤ fr ∧ 13 ≤ lo ∧ xRi G YX12_holds (fr - 1) (lo - 13) [.int s1, .int s0] h (fun x4 h3 => xext h h3 → bX12_relate_487 G fr lo x0 x4 h3 Q) (fun r h2 => Q (.threw r) h2)
set_option maxRecDepth 100000 in
theorem uX12_relate_445 {G : xG} {fr lo : Nat} {x0 : Nat} {s0 : Int32} {s1 : Int32} {h : xH} {Q : Outcome → xH → Prop} (hq : bX12_relate_445 G fr lo x0 s0 s1 h Q) : xP G YX12_relate fr lo 445 [(0, rv x0)] [.int s0, .int s1] h Q := by
  unfold bX12_relate_445 at hq
  obtain ⟨g1, g2, hq⟩ := hq
  refine x_callS (Yc := YX12_holds) (as := [.int s1, .int s0]) (st := []) q4690 msX12_holds rfl dX12_relate_445 (xle (xal1 rfl (xal1 rfl xal0)) (by decide)) (xfr g1) (xlo xsw0 (by decide) g2) (xKi hq (fun x4 h3 hq e5 => ?_) (fun _ _ q _ => q))
  replace hq := hq e5
  refine x_istore (lv' := [(12, .int x4), (0, rv x0)]) dX12_relate_448 (by decide) rfl ?_
  refine x_goto (tgt := 487) dX12_relate_450 (by decide) ?_
  refine xP.pick (lv' := [(0, rv x0), (12, .int x4)]) [1, 0] rfl ?_
  exact uX12_relate_487 hq
set_option maxRecDepth 100000 in
def bX12_relate_416 (G : xG) (fr lo : Nat) (x0 : Nat) (x11 : Int32) (x14 : UInt64) (s0 : UInt64) (h : xH) (Q : Outcome → xH → Prop) : Prop := ((0 ≤ (Op.cmpValue (FP.dcmp x14 s0) .g) → (((Op.cmpValue (FP.dcmp x14 s0) .l) ≤ 0 → bX12_relate_445 G fr lo x0 0 x11 h Q) ∧ (¬ (Op.cmpValue (FP.dcmp x14 s0) .l) ≤ 0 → bX12_relate_445 G fr lo x0 1 x11 h Q))) ∧ (¬ 0 ≤ (Op.cmpValue (FP.dcmp x14 s0) .g) → bX12_relate_445 G fr lo x0 (-1) x11 h Q))
set_option maxRecDepth 100000 in
theorem uX12_relate_416 {G : xG} {fr lo : Nat} {x0 : Nat} {x11 : Int32} {x14 : UInt64} {s0 : UInt64} {h : xH} {Q : Outcome → xH → Prop} (hq : bX12_relate_416 G fr lo x0 x11 x14 s0 h Q) : xP G YX12_relate fr lo 416 [(0, rv x0), (11, .int x11), (14, .double x14)] [.double s0] h Q := by
  unfold bX12_relate_416 at hq
  refine x_dstore (lv' := [(16, .double s0), (0, rv x0), (11, .int x11), (14, .double x14)]) dX12_relate_416 (by decide) rfl ?_
  refine x_iload 2 dX12_relate_418 rfl ?_
  refine x_dload 3 dX12_relate_420 rfl ?_
  refine x_dload 0 dX12_relate_422 rfl ?_
  refine x_dcmp dX12_relate_424 ?_
  refine x_if_ge (tgt := 432) dX12_relate_425 (by decide) (fun c1 => ?_) (fun c1 => ?_)
  · replace hq := hq.1 c1
    refine x_dload 3 dX12_relate_432 rfl ?_
    refine x_dload 0 dX12_relate_434 rfl ?_
    refine x_dcmp dX12_relate_436 ?_
    refine x_if_le (tgt := 444) dX12_relate_437 (by decide) (fun c2 => ?_) (fun c2 => ?_)
    · replace hq := hq.1 c2
      refine x_iconst (v := 0) dX12_relate_444 (by decide) ?_
      refine xP.pick (lv' := [(0, rv x0)]) [1] rfl ?_
      exact uX12_relate_445 hq
    · replace hq := hq.2 c2
      refine x_iconst (v := 1) dX12_relate_440 (by decide) ?_
      refine x_goto (tgt := 445) dX12_relate_441 (by decide) ?_
      refine xP.pick (lv' := [(0, rv x0)]) [1] rfl ?_
      exact uX12_relate_445 hq
  · replace hq := hq.2 c1
    refine x_iconst (v := (-1)) dX12_relate_428 (by decide) ?_
    refine x_goto (tgt := 445) dX12_relate_429 (by decide) ?_
    refine xP.pick (lv' := [(0, rv x0)]) [1] rfl ?_
    exact uX12_relate_445 hq
set_option maxRecDepth 100000 in
def bX12_relate_393 (G : xG) (fr lo : Nat) (x0 : Nat) (x9 : Nat) (x11 : Int32) (s0 : UInt64) (h : xH) (Q : Outcome → xH → Prop) : Prop := tg h x9 = 14 ∧ ((¬ (fI h x9 3328) = 2 → tg h x0 = 13 ∧ bX12_relate_416 G fr lo x0 x11 s0 (FP.l2d (fJ h x0 3177)) h Q) ∧ ((fI h x9 3328) = 2 → tg h x0 = 13 ∧ bX12_relate_416 G fr lo x0 x11 s0 (fD h x0 3179) h Q))
set_option maxRecDepth 100000 in
theorem uX12_relate_393 {G : xG} {fr lo : Nat} {x0 : Nat} {x9 : Nat} {x11 : Int32} {s0 : UInt64} {h : xH} {Q : Outcome → xH → Prop} (hq : bX12_relate_393 G fr lo x0 x9 x11 s0 h Q) : xP G YX12_relate fr lo 393 [(0, rv x0), (9, rv x9), (11, .int x11)] [.double s0] h Q := by
  unfold bX12_relate_393 at hq
  refine x_dstore (lv' := [(14, .double s0), (0, rv x0), (9, rv x9), (11, .int x11)]) dX12_relate_393 (by decide) rfl ?_
  refine x_aload 2 dX12_relate_395 rfl ?_
  obtain ⟨g1, hq⟩ := hq
  refine x_get (v := .int (fI h x9 3328)) fdX12_845 dX12_relate_397 g1 rfl ?_
  refine x_iconst (v := 2) dX12_relate_400 (by decide) ?_
  refine x_icmp_ne (tgt := 411) dX12_relate_401 (by decide) (fun c2 => ?_) (fun c2 => ?_)
  · replace hq := hq.1 c2
    refine x_aload_n 1 dX12_relate_411 rfl ?_
    obtain ⟨g3, hq⟩ := hq
    refine x_get (v := .long (fJ h x0 3177)) fdX12_1145 dX12_relate_412 g3 rfl ?_
    refine x_l2d dX12_relate_415 ?_
    refine xP.pick (lv' := [(0, rv x0), (11, .int x11), (14, .double s0)]) [1, 3, 0] rfl ?_
    exact uX12_relate_416 hq
  · replace hq := hq.2 c2
    refine x_aload_n 1 dX12_relate_404 rfl ?_
    obtain ⟨g4, hq⟩ := hq
    refine x_get (v := .double (fD h x0 3179)) fdX12_1151 dX12_relate_405 g4 rfl ?_
    refine x_goto (tgt := 416) dX12_relate_408 (by decide) ?_
    refine xP.pick (lv' := [(0, rv x0), (11, .int x11), (14, .double s0)]) [1, 3, 0] rfl ?_
    exact uX12_relate_416 hq
set_option maxRecDepth 100000 in
def bX12_relate_377 (G : xG) (fr lo : Nat) (x0 : Nat) (x1 : Int64) (x5 : UInt64) (x8 : Nat) (x9 : Nat) (x11 : Int32) (h : xH) (Q : Outcome → xH → Prop) : Prop := tg h x8 = 14 ∧ ((¬ (fI h x8 3328) = 2 → bX12_relate_393 G fr lo x0 x9 x11 (FP.l2d x1) h Q) ∧ ((fI h x8 3328) = 2 → bX12_relate_393 G fr lo x0 x9 x11 x5 h Q))
set_option maxRecDepth 100000 in
theorem uX12_relate_377 {G : xG} {fr lo : Nat} {x0 : Nat} {x1 : Int64} {x5 : UInt64} {x8 : Nat} {x9 : Nat} {x11 : Int32} {h : xH} {Q : Outcome → xH → Prop} (hq : bX12_relate_377 G fr lo x0 x1 x5 x8 x9 x11 h Q) : xP G YX12_relate fr lo 377 [(0, rv x0), (1, .long x1), (5, .double x5), (8, rv x8), (9, rv x9), (11, .int x11)] [] h Q := by
  unfold bX12_relate_377 at hq
  refine x_aload 3 dX12_relate_377 rfl ?_
  obtain ⟨g1, hq⟩ := hq
  refine x_get (v := .int (fI h x8 3328)) fdX12_845 dX12_relate_379 g1 rfl ?_
  refine x_iconst (v := 2) dX12_relate_382 (by decide) ?_
  refine x_icmp_ne (tgt := 391) dX12_relate_383 (by decide) (fun c2 => ?_) (fun c2 => ?_)
  · replace hq := hq.1 c2
    refine x_lload_n 1 dX12_relate_391 rfl ?_
    refine x_l2d dX12_relate_392 ?_
    refine xP.pick (lv' := [(0, rv x0), (9, rv x9), (11, .int x11)]) [0, 4, 5] rfl ?_
    exact uX12_relate_393 hq
  · replace hq := hq.2 c2
    refine x_dload 2 dX12_relate_386 rfl ?_
    refine x_goto (tgt := 393) dX12_relate_388 (by decide) ?_
    refine xP.pick (lv' := [(0, rv x0), (9, rv x9), (11, .int x11)]) [0, 4, 5] rfl ?_
    exact uX12_relate_393 hq
set_option maxRecDepth 100000 in
def bX12_relate_347 (G : xG) (fr lo : Nat) (x0 : Nat) (x11 : Int32) (x14 : Int32) (h : xH) (Q : Outcome → xH → Prop) : Prop := 1 ≤ fr ∧ 13 ≤ lo ∧ xRi G YX12_holds (fr - 1) (lo - 13) [.int x11, .int x14] h (fun x4 h3 => xext h h3 → bX12_relate_487 G fr lo x0 x4 h3 Q) (fun r h2 => Q (.threw r) h2)
set_option maxRecDepth 100000 in
theorem uX12_relate_347 {G : xG} {fr lo : Nat} {x0 : Nat} {x11 : Int32} {x14 : Int32} {h : xH} {Q : Outcome → xH → Prop} (hq : bX12_relate_347 G fr lo x0 x11 x14 h Q) : xP G YX12_relate fr lo 347 [(0, rv x0), (11, .int x11), (14, .int x14)] [] h Q := by
  unfold bX12_relate_347 at hq
  refine x_iload 1 dX12_relate_347 rfl ?_
  refine x_iload 2 dX12_relate_349 rfl ?_
  obtain ⟨g1, g2, hq⟩ := hq
  refine x_callS (Yc := YX12_holds) (as := [.int x11, .int x14]) (st := []) q4690 msX12_holds rfl dX12_relate_351 (xle (xal1 rfl (xal1 rfl xal0)) (by decide)) (xfr g1) (xlo xsw0 (by decide) g2) (xKi hq (fun x4 h3 hq e5 => ?_) (fun _ _ q _ => q))
  replace hq := hq e5
  refine x_istore (lv' := [(12, .int x4), (0, rv x0), (11, .int x11), (14, .int x14)]) dX12_relate_354 (by decide) rfl ?_
  refine x_goto (tgt := 487) dX12_relate_356 (by decide) ?_
  refine xP.pick (lv' := [(0, rv x0), (12, .int x4)]) [1, 0] rfl ?_
  exact uX12_relate_487 hq
set_option maxRecDepth 100000 in
def bX12_relate_308 (G : xG) (fr lo : Nat) (x0 : Nat) (x7 : Int32) (x11 : Int32) (x13 : Int32) (x14 : Int32) (x15 : Int32) (h : xH) (Q : Outcome → xH → Prop) : Prop := ((x13 ≤ x15 → bX12_relate_347 G fr lo x0 x11 x14 h Q) ∧ (¬ x13 ≤ x15 → ((¬ x14 = 0 → bX12_relate_347 G fr lo x0 x11 x14 h Q) ∧ (x14 = 0 → tg h x0 = 13 ∧ 1 ≤ fr ∧ 14 ≤ lo ∧ xRi G YX12_signAt (fr - 1) (lo - 14) [rv x0, .int x7, .int x15] h (fun x7 h6 => xext h h6 → 1 ≤ fr ∧ 15 ≤ lo ∧ xRi G YX12_signAt (fr - 1) (lo - 15) [rv x0, .int (fI h6 x0 3180), .int x15] h6 (fun x13 h12 => xext h6 h12 → lX12_relate_308 G fr lo x0 x7 x11 x13 (x7 - x13) (x15 + 1) h12 Q) (fun r h2 => Q (.threw r) h2)) (fun r h2 => Q (.threw r) h2)))))
set_option maxRecDepth 100000 in
theorem uX12_relate_308 {G : xG} {fr lo : Nat} {x0 : Nat} {x7 : Int32} {x11 : Int32} {x13 : Int32} {x14 : Int32} {x15 : Int32} {h : xH} {Q : Outcome → xH → Prop} (hq : bX12_relate_308 G fr lo x0 x7 x11 x13 x14 x15 h Q) : xP G YX12_relate fr lo 308 [(0, rv x0), (7, .int x7), (11, .int x11), (13, .int x13), (14, .int x14), (15, .int x15)] [] h Q := by
  unfold bX12_relate_308 at hq
  refine x_iload 5 dX12_relate_308 rfl ?_
  refine x_iload 3 dX12_relate_310 rfl ?_
  refine x_icmp_ge (tgt := 347) dX12_relate_312 (by decide) (fun c1 => ?_) (fun c1 => ?_)
  · replace hq := hq.1 c1
    refine xP.pick (lv' := [(0, rv x0), (11, .int x11), (14, .int x14)]) [0, 2, 4] rfl ?_
    exact uX12_relate_347 hq
  · replace hq := hq.2 c1
    refine x_iload 4 dX12_relate_315 rfl ?_
    refine x_if_ne (tgt := 347) dX12_relate_317 (by decide) (fun c2 => ?_) (fun c2 => ?_)
    · replace hq := hq.1 c2
      refine xP.pick (lv' := [(0, rv x0), (11, .int x11), (14, .int x14)]) [0, 2, 4] rfl ?_
      exact uX12_relate_347 hq
    · replace hq := hq.2 c2
      refine x_aload_n 0 dX12_relate_320 rfl ?_
      refine x_iload 1 dX12_relate_321 rfl ?_
      refine x_iload 5 dX12_relate_323 rfl ?_
      obtain ⟨g3, hq⟩ := hq
      obtain ⟨g4, g5, hq⟩ := hq
      refine x_callV (Yc := YX12_signAt) (as := [.int x7, .int x15]) (st := []) q4686 mvX12_signAt g3 rfl dX12_relate_325 (xle (xal1 (rv_cat _) (xal1 rfl (xal1 rfl xal0))) (by decide)) (xfr g4) (xlo xsw0 (by decide) g5) (xKi hq (fun x7 h6 hq e8 => ?_) (fun _ _ q _ => q))
      replace hq := hq e8
      refine x_aload_n 0 dX12_relate_328 rfl ?_
      refine x_aload_n 0 dX12_relate_329 rfl ?_
      have t9 : tg h6 x0 = 13 := e8.tg g3 (by decide)
      refine x_get (v := .int (fI h6 x0 3180)) fdX12_1136 dX12_relate_330 t9 rfl ?_
      refine x_iload 5 dX12_relate_333 rfl ?_
      obtain ⟨g10, g11, hq⟩ := hq
      refine x_callV (Yc := YX12_signAt) (as := [.int (fI h6 x0 3180), .int x15]) (st := [.int x7]) q4686 mvX12_signAt t9 rfl dX12_relate_335 (xle (xal1 (rv_cat _) (xal1 rfl (xal1 rfl xal0))) (by decide)) (xfr g10) (xlo (xsw1 rfl xsw0) (by decide) g11) (xKi hq (fun x13 h12 hq e14 => ?_) (fun _ _ q _ => q))
      replace hq := hq e14
      refine x_isub dX12_relate_338 ?_
      refine x_istore (lv' := [(14, .int (x7 - x13)), (0, rv x0), (7, .int x7), (11, .int x11), (13, .int x13), (15, .int x15)]) dX12_relate_339 (by decide) rfl ?_
      refine x_iinc (lv' := [(15, .int (x15 + 1)), (14, .int (x7 - x13)), (0, rv x0), (7, .int x7), (11, .int x11), (13, .int x13)]) 5 dX12_relate_341 rfl (by decide) rfl ?_
      refine x_goto (tgt := 308) dX12_relate_344 (by decide) ?_
      refine xP.pick (lv' := [(0, rv x0), (7, .int x7), (11, .int x11), (13, .int x13), (14, .int (x7 - x13)), (15, .int (x15 + 1))]) [2, 3, 4, 5, 1, 0] rfl ?_
      exact hq
set_option maxRecDepth 100000 in
def bX12_relate_294 (G : xG) (fr lo : Nat) (x0 : Nat) (x10 : Int32) (h : xH) (Q : Outcome → xH → Prop) : Prop := tg h x0 = 13 ∧ 1 ≤ fr ∧ 14 ≤ lo ∧ xRv G YX12_error (fr - 1) (lo - 14) [rv x0, .int 5, .int x10] h (fun h4 => xext h h4 → Q (.returned none) h4) (fun r h2 => Q (.threw r) h2)
set_option maxRecDepth 100000 in
theorem uX12_relate_294 {G : xG} {fr lo : Nat} {x0 : Nat} {x10 : Int32} {h : xH} {Q : Outcome → xH → Prop} (hq : bX12_relate_294 G fr lo x0 x10 h Q) : xP G YX12_relate fr lo 294 [(0, rv x0), (10, .int x10)] [] h Q := by
  unfold bX12_relate_294 at hq
  refine x_aload_n 0 dX12_relate_294 rfl ?_
  refine x_iconst (v := 5) dX12_relate_295 (by decide) ?_
  refine x_iload 1 dX12_relate_296 rfl ?_
  obtain ⟨g1, hq⟩ := hq
  obtain ⟨g2, g3, hq⟩ := hq
  refine x_callV (Yc := YX12_error) (as := [.int 5, .int x10]) (st := []) q4490 mvX12_error g1 rfl dX12_relate_298 (xle (xal1 (rv_cat _) (xal1 rfl (xal1 rfl xal0))) (by decide)) (xfr g2) (xlo xsw0 (by decide) g3) (xKv hq (fun h4 hq e6 => ?_) (fun _ _ q _ => q))
  replace hq := hq e6
  exact x_vret rfl dX12_relate_301 hq
set_option maxRecDepth 100000 in
def bX12_relate_226 (G : xG) (fr lo : Nat) (x0 : Nat) (s0 : Int32) (h : xH) (Q : Outcome → xH → Prop) : Prop := bX12_relate_487 G fr lo x0 s0 h Q
set_option maxRecDepth 100000 in
theorem uX12_relate_226 {G : xG} {fr lo : Nat} {x0 : Nat} {s0 : Int32} {h : xH} {Q : Outcome → xH → Prop} (hq : bX12_relate_226 G fr lo x0 s0 h Q) : xP G YX12_relate fr lo 226 [(0, rv x0)] [.int s0] h Q := by
  unfold bX12_relate_226 at hq
  refine x_istore (lv' := [(12, .int s0), (0, rv x0)]) dX12_relate_226 (by decide) rfl ?_
  refine x_goto (tgt := 487) dX12_relate_228 (by decide) ?_
  refine xP.pick (lv' := [(0, rv x0), (12, .int s0)]) [1, 0] rfl ?_
  exact uX12_relate_487 hq
set_option maxRecDepth 100000 in
def bX12_relate_218 (G : xG) (fr lo : Nat) (x0 : Nat) (s0 : Int32) (s1 : Int32) (h : xH) (Q : Outcome → xH → Prop) : Prop := ((¬ s1 = s0 → bX12_relate_226 G fr lo x0 0 h Q) ∧ (s1 = s0 → bX12_relate_226 G fr lo x0 1 h Q))
set_option maxRecDepth 100000 in
theorem uX12_relate_218 {G : xG} {fr lo : Nat} {x0 : Nat} {s0 : Int32} {s1 : Int32} {h : xH} {Q : Outcome → xH → Prop} (hq : bX12_relate_218 G fr lo x0 s0 s1 h Q) : xP G YX12_relate fr lo 218 [(0, rv x0)] [.int s0, .int s1] h Q := by
  unfold bX12_relate_218 at hq
  refine x_icmp_ne (tgt := 225) dX12_relate_218 (by decide) (fun c1 => ?_) (fun c1 => ?_)
  · replace hq := hq.1 c1
    refine x_iconst (v := 0) dX12_relate_225 (by decide) ?_
    exact uX12_relate_226 hq
  · replace hq := hq.2 c1
    refine x_iconst (v := 1) dX12_relate_221 (by decide) ?_
    refine x_goto (tgt := 226) dX12_relate_222 (by decide) ?_
    exact uX12_relate_226 hq
set_option maxRecDepth 100000 in
def bX12_relate_206 (G : xG) (fr lo : Nat) (x0 : Nat) (x11 : Int32) (s0 : Int32) (h : xH) (Q : Outcome → xH → Prop) : Prop := ((¬ x11 = 54 → bX12_relate_218 G fr lo x0 0 s0 h Q) ∧ (x11 = 54 → bX12_relate_218 G fr lo x0 1 s0 h Q))
set_option maxRecDepth 100000 in
theorem uX12_relate_206 {G : xG} {fr lo : Nat} {x0 : Nat} {x11 : Int32} {s0 : Int32} {h : xH} {Q : Outcome → xH → Prop} (hq : bX12_relate_206 G fr lo x0 x11 s0 h Q) : xP G YX12_relate fr lo 206 [(0, rv x0), (11, .int x11)] [.int s0] h Q := by
  unfold bX12_relate_206 at hq
  refine x_iload 1 dX12_relate_206 rfl ?_
  refine x_bipush (v := 54) dX12_relate_208 (by decide) ?_
  refine x_icmp_ne (tgt := 217) dX12_relate_210 (by decide) (fun c1 => ?_) (fun c1 => ?_)
  · replace hq := hq.1 c1
    refine x_iconst (v := 0) dX12_relate_217 (by decide) ?_
    refine xP.pick (lv' := [(0, rv x0)]) [0] rfl ?_
    exact uX12_relate_218 hq
  · replace hq := hq.2 c1
    refine x_iconst (v := 1) dX12_relate_213 (by decide) ?_
    refine x_goto (tgt := 218) dX12_relate_214 (by decide) ?_
    refine xP.pick (lv' := [(0, rv x0)]) [0] rfl ?_
    exact uX12_relate_218 hq
set_option maxRecDepth 100000 in
def bX12_relate_205 (G : xG) (fr lo : Nat) (x0 : Nat) (x11 : Int32) (h : xH) (Q : Outcome → xH → Prop) : Prop := bX12_relate_206 G fr lo x0 x11 0 h Q
set_option maxRecDepth 100000 in
theorem uX12_relate_205 {G : xG} {fr lo : Nat} {x0 : Nat} {x11 : Int32} {h : xH} {Q : Outcome → xH → Prop} (hq : bX12_relate_205 G fr lo x0 x11 h Q) : xP G YX12_relate fr lo 205 [(0, rv x0), (11, .int x11)] [] h Q := by
  unfold bX12_relate_205 at hq
  refine x_iconst (v := 0) dX12_relate_205 (by decide) ?_
  exact uX12_relate_206 hq
set_option maxRecDepth 100000 in
def bX12_relate_165 (G : xG) (fr lo : Nat) (x0 : Nat) (x11 : Int32) (x14 : Int32) (s0 : Int32) (h : xH) (Q : Outcome → xH → Prop) : Prop := ((¬ x11 = 57 → ((¬ x11 = 58 → ((x14 = 0 → bX12_relate_205 G fr lo x0 x11 h Q) ∧ (¬ x14 = 0 → ((s0 = 0 → bX12_relate_205 G fr lo x0 x11 h Q) ∧ (¬ s0 = 0 → bX12_relate_206 G fr lo x0 x11 1 h Q))))) ∧ (x11 = 58 → bX12_relate_226 G fr lo x0 s0 h Q))) ∧ (x11 = 57 → bX12_relate_226 G fr lo x0 x14 h Q))
set_option maxRecDepth 100000 in
theorem uX12_relate_165 {G : xG} {fr lo : Nat} {x0 : Nat} {x11 : Int32} {x14 : Int32} {s0 : Int32} {h : xH} {Q : Outcome → xH → Prop} (hq : bX12_relate_165 G fr lo x0 x11 x14 s0 h Q) : xP G YX12_relate fr lo 165 [(0, rv x0), (11, .int x11), (14, .int x14)] [.int s0] h Q := by
  unfold bX12_relate_165 at hq
  refine x_istore (lv' := [(15, .int s0), (0, rv x0), (11, .int x11), (14, .int x14)]) dX12_relate_165 (by decide) rfl ?_
  refine x_iload 2 dX12_relate_167 rfl ?_
  refine x_bipush (v := 57) dX12_relate_169 (by decide) ?_
  refine x_icmp_ne (tgt := 179) dX12_relate_171 (by decide) (fun c1 => ?_) (fun c1 => ?_)
  · replace hq := hq.1 c1
    refine x_iload 2 dX12_relate_179 rfl ?_
    refine x_bipush (v := 58) dX12_relate_181 (by decide) ?_
    refine x_icmp_ne (tgt := 191) dX12_relate_183 (by decide) (fun c2 => ?_) (fun c2 => ?_)
    · replace hq := hq.1 c2
      refine x_iload 3 dX12_relate_191 rfl ?_
      refine x_if_eq (tgt := 205) dX12_relate_193 (by decide) (fun c3 => ?_) (fun c3 => ?_)
      · replace hq := hq.1 c3
        refine xP.pick (lv' := [(0, rv x0), (11, .int x11)]) [1, 2] rfl ?_
        exact uX12_relate_205 hq
      · replace hq := hq.2 c3
        refine x_iload 0 dX12_relate_196 rfl ?_
        refine x_if_eq (tgt := 205) dX12_relate_198 (by decide) (fun c4 => ?_) (fun c4 => ?_)
        · replace hq := hq.1 c4
          refine xP.pick (lv' := [(0, rv x0), (11, .int x11)]) [1, 2] rfl ?_
          exact uX12_relate_205 hq
        · replace hq := hq.2 c4
          refine x_iconst (v := 1) dX12_relate_201 (by decide) ?_
          refine x_goto (tgt := 206) dX12_relate_202 (by decide) ?_
          refine xP.pick (lv' := [(0, rv x0), (11, .int x11)]) [1, 2] rfl ?_
          exact uX12_relate_206 hq
    · replace hq := hq.2 c2
      refine x_iload 0 dX12_relate_186 rfl ?_
      refine x_goto (tgt := 226) dX12_relate_188 (by decide) ?_
      refine xP.pick (lv' := [(0, rv x0)]) [1] rfl ?_
      exact uX12_relate_226 hq
  · replace hq := hq.2 c1
    refine x_iload 3 dX12_relate_174 rfl ?_
    refine x_goto (tgt := 226) dX12_relate_176 (by decide) ?_
    refine xP.pick (lv' := [(0, rv x0)]) [1] rfl ?_
    exact uX12_relate_226 hq
set_option maxRecDepth 100000 in
def bX12_relate_164 (G : xG) (fr lo : Nat) (x0 : Nat) (x11 : Int32) (x14 : Int32) (h : xH) (Q : Outcome → xH → Prop) : Prop := bX12_relate_165 G fr lo x0 x11 x14 0 h Q
set_option maxRecDepth 100000 in
theorem uX12_relate_164 {G : xG} {fr lo : Nat} {x0 : Nat} {x11 : Int32} {x14 : Int32} {h : xH} {Q : Outcome → xH → Prop} (hq : bX12_relate_164 G fr lo x0 x11 x14 h Q) : xP G YX12_relate fr lo 164 [(0, rv x0), (11, .int x11), (14, .int x14)] [] h Q := by
  unfold bX12_relate_164 at hq
  refine x_iconst (v := 0) dX12_relate_164 (by decide) ?_
  exact uX12_relate_165 hq
set_option maxRecDepth 100000 in
def bX12_relate_128 (G : xG) (fr lo : Nat) (x0 : Nat) (x1 : Int64) (x3 : Int64) (x11 : Int32) (s0 : Int32) (h : xH) (Q : Outcome → xH → Prop) : Prop := tg h x0 = 13 ∧ ((¬ (lg_cmp ((fJ h x0 3177) &&& (x1 ^^^ (-1))) 0) = 0 → bX12_relate_164 G fr lo x0 x11 s0 h Q) ∧ ((lg_cmp ((fJ h x0 3177) &&& (x1 ^^^ (-1))) 0) = 0 → ((¬ (lg_cmp ((fJ h x0 3178) &&& (x3 ^^^ (-1))) 0) = 0 → bX12_relate_164 G fr lo x0 x11 s0 h Q) ∧ ((lg_cmp ((fJ h x0 3178) &&& (x3 ^^^ (-1))) 0) = 0 → bX12_relate_165 G fr lo x0 x11 s0 1 h Q))))
set_option maxRecDepth 100000 in
theorem uX12_relate_128 {G : xG} {fr lo : Nat} {x0 : Nat} {x1 : Int64} {x3 : Int64} {x11 : Int32} {s0 : Int32} {h : xH} {Q : Outcome → xH → Prop} (hq : bX12_relate_128 G fr lo x0 x1 x3 x11 s0 h Q) : xP G YX12_relate fr lo 128 [(0, rv x0), (1, .long x1), (3, .long x3), (11, .int x11)] [.int s0] h Q := by
  unfold bX12_relate_128 at hq
  refine x_istore (lv' := [(14, .int s0), (0, rv x0), (1, .long x1), (3, .long x3), (11, .int x11)]) dX12_relate_128 (by decide) rfl ?_
  refine x_aload_n 1 dX12_relate_130 rfl ?_
  obtain ⟨g1, hq⟩ := hq
  refine x_get (v := .long (fJ h x0 3177)) fdX12_1145 dX12_relate_131 g1 rfl ?_
  refine x_lload_n 2 dX12_relate_134 rfl ?_
  refine x_ldc2 (v := (-1)) q4606 dX12_relate_135 ?_
  refine x_lxor dX12_relate_138 ?_
  refine x_land dX12_relate_139 ?_
  refine x_lconst (v := 0) dX12_relate_140 (by decide) ?_
  refine x_lcmp dX12_relate_141 ?_
  refine x_if_ne (tgt := 164) dX12_relate_142 (by decide) (fun c2 => ?_) (fun c2 => ?_)
  · replace hq := hq.1 c2
    refine xP.pick (lv' := [(0, rv x0), (11, .int x11), (14, .int s0)]) [1, 4, 0] rfl ?_
    exact uX12_relate_164 hq
  · replace hq := hq.2 c2
    refine x_aload_n 1 dX12_relate_145 rfl ?_
    refine x_get (v := .long (fJ h x0 3178)) fdX12_1148 dX12_relate_146 g1 rfl ?_
    refine x_lload_n 3 dX12_relate_149 rfl ?_
    refine x_ldc2 (v := (-1)) q4606 dX12_relate_150 ?_
    refine x_lxor dX12_relate_153 ?_
    refine x_land dX12_relate_154 ?_
    refine x_lconst (v := 0) dX12_relate_155 (by decide) ?_
    refine x_lcmp dX12_relate_156 ?_
    refine x_if_ne (tgt := 164) dX12_relate_157 (by decide) (fun c3 => ?_) (fun c3 => ?_)
    · replace hq := hq.1 c3
      refine xP.pick (lv' := [(0, rv x0), (11, .int x11), (14, .int s0)]) [1, 4, 0] rfl ?_
      exact uX12_relate_164 hq
    · replace hq := hq.2 c3
      refine x_iconst (v := 1) dX12_relate_160 (by decide) ?_
      refine x_goto (tgt := 165) dX12_relate_161 (by decide) ?_
      refine xP.pick (lv' := [(0, rv x0), (11, .int x11), (14, .int s0)]) [1, 4, 0] rfl ?_
      exact uX12_relate_165 hq
set_option maxRecDepth 100000 in
def bX12_relate_127 (G : xG) (fr lo : Nat) (x0 : Nat) (x1 : Int64) (x3 : Int64) (x11 : Int32) (h : xH) (Q : Outcome → xH → Prop) : Prop := bX12_relate_128 G fr lo x0 x1 x3 x11 0 h Q
set_option maxRecDepth 100000 in
theorem uX12_relate_127 {G : xG} {fr lo : Nat} {x0 : Nat} {x1 : Int64} {x3 : Int64} {x11 : Int32} {h : xH} {Q : Outcome → xH → Prop} (hq : bX12_relate_127 G fr lo x0 x1 x3 x11 h Q) : xP G YX12_relate fr lo 127 [(0, rv x0), (1, .long x1), (3, .long x3), (11, .int x11)] [] h Q := by
  unfold bX12_relate_127 at hq
  refine x_iconst (v := 0) dX12_relate_127 (by decide) ?_
  exact uX12_relate_128 hq
set_option maxRecDepth 100000 in
def bX12_relate_78 (G : xG) (fr lo : Nat) (x0 : Nat) (s0 : Int32) (h : xH) (Q : Outcome → xH → Prop) : Prop := bX12_relate_487 G fr lo x0 s0 h Q
set_option maxRecDepth 100000 in
theorem uX12_relate_78 {G : xG} {fr lo : Nat} {x0 : Nat} {s0 : Int32} {h : xH} {Q : Outcome → xH → Prop} (hq : bX12_relate_78 G fr lo x0 s0 h Q) : xP G YX12_relate fr lo 78 [(0, rv x0)] [.int s0] h Q := by
  unfold bX12_relate_78 at hq
  refine x_istore (lv' := [(12, .int s0), (0, rv x0)]) dX12_relate_78 (by decide) rfl ?_
  refine x_goto (tgt := 487) dX12_relate_80 (by decide) ?_
  refine xP.pick (lv' := [(0, rv x0), (12, .int s0)]) [1, 0] rfl ?_
  exact uX12_relate_487 hq
set_option maxRecDepth 100000 in
def bX12_relate_77 (G : xG) (fr lo : Nat) (x0 : Nat) (h : xH) (Q : Outcome → xH → Prop) : Prop := bX12_relate_78 G fr lo x0 0 h Q
set_option maxRecDepth 100000 in
theorem uX12_relate_77 {G : xG} {fr lo : Nat} {x0 : Nat} {h : xH} {Q : Outcome → xH → Prop} (hq : bX12_relate_77 G fr lo x0 h Q) : xP G YX12_relate fr lo 77 [(0, rv x0)] [] h Q := by
  unfold bX12_relate_77 at hq
  refine x_iconst (v := 0) dX12_relate_77 (by decide) ?_
  exact uX12_relate_78 hq
set_option maxRecDepth 100000 in
def bX12_relate_66 (G : xG) (fr lo : Nat) (x0 : Nat) (s0 : Int64) (h : xH) (Q : Outcome → xH → Prop) : Prop := ((¬ (lg_cmp (s0 &&& 1) 1) = 0 → bX12_relate_77 G fr lo x0 h Q) ∧ ((lg_cmp (s0 &&& 1) 1) = 0 → bX12_relate_78 G fr lo x0 1 h Q))
set_option maxRecDepth 100000 in
theorem uX12_relate_66 {G : xG} {fr lo : Nat} {x0 : Nat} {s0 : Int64} {h : xH} {Q : Outcome → xH → Prop} (hq : bX12_relate_66 G fr lo x0 s0 h Q) : xP G YX12_relate fr lo 66 [(0, rv x0)] [.long s0] h Q := by
  unfold bX12_relate_66 at hq
  refine x_lconst (v := 1) dX12_relate_66 (by decide) ?_
  refine x_land dX12_relate_67 ?_
  refine x_lconst (v := 1) dX12_relate_68 (by decide) ?_
  refine x_lcmp dX12_relate_69 ?_
  refine x_if_ne (tgt := 77) dX12_relate_70 (by decide) (fun c1 => ?_) (fun c1 => ?_)
  · replace hq := hq.1 c1
    exact uX12_relate_77 hq
  · replace hq := hq.2 c1
    refine x_iconst (v := 1) dX12_relate_73 (by decide) ?_
    refine x_goto (tgt := 78) dX12_relate_74 (by decide) ?_
    exact uX12_relate_78 hq
set_option maxRecDepth 100000 in
def bX12_relate (G : xG) (fr lo : Nat) (x0 : Nat) (x1 : Int64) (x3 : Int64) (x5 : UInt64) (x7 : Int32) (x8 : Nat) (x9 : Nat) (x10 : Int32) (h : xH) (Q : Outcome → xH → Prop) : Prop := tg h x0 = 13 ∧ tg h (fR h x0 3082) = 100 ∧ vp_in x10 (ln h (fR h x0 3082)) ∧ tg h x8 = 14 ∧ 1 ≤ fr ∧ 13 ≤ lo ∧ xRi G YX13_characters (fr - 1) (lo - 13) [rv x8] h (fun x8 h7 => xext h h7 → ((¬ (aI h (fR h x0 3082) (Int32.toNatClampNeg x10)) = 16 → ((¬ (fI h7 x8 3328) = 9 → ((x8 ≤ 0 → (((fI h7 x8 3328) = 2 → bX12_relate_377 G fr lo x0 x1 x5 x8 x9 (aI h (fR h x0 3082) (Int32.toNatClampNeg x10)) h7 Q) ∧ (¬ (fI h7 x8 3328) = 2 → tg h7 x9 = 14 ∧ ((¬ (fI h7 x9 3328) = 2 → ((0 ≤ (lg_cmp x1 (fJ h7 x0 3177)) → (((lg_cmp x1 (fJ h7 x0 3177)) ≤ 0 → bX12_relate_482 G fr lo x0 0 (aI h (fR h x0 3082) (Int32.toNatClampNeg x10)) h7 Q) ∧ (¬ (lg_cmp x1 (fJ h7 x0 3177)) ≤ 0 → bX12_relate_482 G fr lo x0 1 (aI h (fR h x0 3082) (Int32.toNatClampNeg x10)) h7 Q))) ∧ (¬ 0 ≤ (lg_cmp x1 (fJ h7 x0 3177)) → bX12_relate_482 G fr lo x0 (-1) (aI h (fR h x0 3082) (Int32.toNatClampNeg x10)) h7 Q))) ∧ ((fI h7 x9 3328) = 2 → bX12_relate_377 G fr lo x0 x1 x5 x8 x9 (aI h (fR h x0 3082) (Int32.toNatClampNeg x10)) h7 Q))))) ∧ (¬ x8 ≤ 0 → ((x8 ≤ ((fI h7 x0 3175) - (fI h7 x0 3176)) → (∀ h22 : xH, h22 = sI h7 x0 3176 ((fI h7 x0 3176) + x8) → 1 ≤ fr ∧ 16 ≤ lo ∧ xRi G YX12_isWhole (fr - 1) (lo - 16) [rv x0, .int x7, .int x8] h22 (fun x28 h27 => xext h22 h27 → ((x28 = 0 → bX12_relate_294 G fr lo x0 x10 h27 Q) ∧ (¬ x28 = 0 → 1 ≤ fr ∧ 16 ≤ lo ∧ xRi G YX12_isWhole (fr - 1) (lo - 16) [rv x0, .int (fI h27 x0 3180), .int x8] h27 (fun x35 h34 => xext h27 h34 → ((¬ x35 = 0 → lX12_relate_308 G fr lo x0 x7 (aI h (fR h x0 3082) (Int32.toNatClampNeg x10)) x8 0 0 h34 Q) ∧ (x35 = 0 → bX12_relate_294 G fr lo x0 x10 h34 Q))) (fun r h2 => Q (.threw r) h2)))) (fun r h2 => Q (.threw r) h2))) ∧ (¬ x8 ≤ ((fI h7 x0 3175) - (fI h7 x0 3176)) → 1 ≤ fr ∧ 14 ≤ lo ∧ xRv G YX12_error (fr - 1) (lo - 14) [rv x0, .int 15, .int x10] h7 (fun h40 => xext h7 h40 → Q (.returned none) h40) (fun r h2 => Q (.threw r) h2)))))) ∧ ((fI h7 x8 3328) = 9 → ((¬ (lg_cmp (x1 &&& ((fJ h7 x0 3177) ^^^ (-1))) 0) = 0 → bX12_relate_127 G fr lo x0 x1 x3 (aI h (fR h x0 3082) (Int32.toNatClampNeg x10)) h7 Q) ∧ ((lg_cmp (x1 &&& ((fJ h7 x0 3177) ^^^ (-1))) 0) = 0 → ((¬ (lg_cmp (x3 &&& ((fJ h7 x0 3178) ^^^ (-1))) 0) = 0 → bX12_relate_127 G fr lo x0 x1 x3 (aI h (fR h x0 3082) (Int32.toNatClampNeg x10)) h7 Q) ∧ ((lg_cmp (x3 &&& ((fJ h7 x0 3178) ^^^ (-1))) 0) = 0 → bX12_relate_128 G fr lo x0 x1 x3 (aI h (fR h x0 3082) (Int32.toNatClampNeg x10)) 1 h7 Q))))))) ∧ ((aI h (fR h x0 3082) (Int32.toNatClampNeg x10)) = 16 → (((lg_cmp x1 0) < 0 → bX12_relate_77 G fr lo x0 h7 Q) ∧ (¬ (lg_cmp x1 0) < 0 → ((0 ≤ (lg_cmp x1 128) → bX12_relate_77 G fr lo x0 h7 Q) ∧ (¬ 0 ≤ (lg_cmp x1 128) → ((0 ≤ (lg_cmp x1 64) → bX12_relate_66 G fr lo x0 ((fJ h7 x0 3178) >>> (Int32.toInt64 (Int64.toInt32 (x1 - 64)) &&& 63)) h7 Q) ∧ (¬ 0 ≤ (lg_cmp x1 64) → bX12_relate_66 G fr lo x0 ((fJ h7 x0 3177) >>> (Int32.toInt64 (Int64.toInt32 x1) &&& 63)) h7 Q))))))))) (fun r h2 => Q (.threw r) h2)
set_option maxRecDepth 100000 in
theorem uX12_relate {G : xG} {fr lo : Nat} {x0 : Nat} {x1 : Int64} {x3 : Int64} {x5 : UInt64} {x7 : Int32} {x8 : Nat} {x9 : Nat} {x10 : Int32} {h : xH} {Q : Outcome → xH → Prop} (hq : bX12_relate G fr lo x0 x1 x3 x5 x7 x8 x9 x10 h Q) : xP G YX12_relate fr lo 0 [(0, rv x0), (1, .long x1), (3, .long x3), (5, .double x5), (7, .int x7), (8, rv x8), (9, rv x9), (10, .int x10)] [] h Q := by
  unfold bX12_relate at hq
  refine x_aload_n 0 dX12_relate_0 rfl ?_
  obtain ⟨g1, hq⟩ := hq
  refine x_get (v := rv (fR h x0 3082)) fdX12_26 dX12_relate_1 g1 rfl ?_
  refine x_iload 7 dX12_relate_4 rfl ?_
  obtain ⟨g2, hq⟩ := hq
  obtain ⟨i3, hq⟩ := hq
  refine x_iald 0 (Or.inl rfl) g2 i3 dX12_relate_6 ?_
  refine x_istore (lv' := [(11, .int (aI h (fR h x0 3082) (Int32.toNatClampNeg x10))), (0, rv x0), (1, .long x1), (3, .long x3), (5, .double x5), (7, .int x7), (8, rv x8), (9, rv x9), (10, .int x10)]) dX12_relate_7 (by decide) rfl ?_
  refine x_aload 6 dX12_relate_9 rfl ?_
  obtain ⟨g4, hq⟩ := hq
  obtain ⟨g5, g6, hq⟩ := hq
  refine x_callV (Yc := YX13_characters) (as := []) (st := []) q4381 mvX13_characters g4 rfl dX12_relate_11 (xle (xal1 (rv_cat _) xal0) (by decide)) (xfr g5) (xlo xsw0 (by decide) g6) (xKi hq (fun x8 h7 hq e9 => ?_) (fun _ _ q _ => q))
  replace hq := hq e9
  refine x_istore (lv' := [(13, .int x8), (11, .int (aI h (fR h x0 3082) (Int32.toNatClampNeg x10))), (0, rv x0), (1, .long x1), (3, .long x3), (5, .double x5), (7, .int x7), (8, rv x8), (9, rv x9), (10, .int x10)]) dX12_relate_14 (by decide) rfl ?_
  refine x_iload 1 dX12_relate_16 rfl ?_
  refine x_bipush (v := 16) dX12_relate_18 (by decide) ?_
  refine x_icmp_ne (tgt := 83) dX12_relate_20 (by decide) (fun c10 => ?_) (fun c10 => ?_)
  · replace hq := hq.1 c10
    refine x_aload 7 dX12_relate_83 rfl ?_
    have t11 : tg h7 x8 = 14 := e9.tg g4 (by decide)
    refine x_get (v := .int (fI h7 x8 3328)) fdX12_845 dX12_relate_85 t11 rfl ?_
    refine x_bipush (v := 9) dX12_relate_88 (by decide) ?_
    refine x_icmp_ne (tgt := 231) dX12_relate_90 (by decide) (fun c12 => ?_) (fun c12 => ?_)
    · replace hq := hq.1 c12
      refine x_iload 0 dX12_relate_231 rfl ?_
      refine x_if_le (tgt := 359) dX12_relate_233 (by decide) (fun c13 => ?_) (fun c13 => ?_)
      · replace hq := hq.1 c13
        refine x_aload 7 dX12_relate_359 rfl ?_
        refine x_get (v := .int (fI h7 x8 3328)) fdX12_845 dX12_relate_361 t11 rfl ?_
        refine x_iconst (v := 2) dX12_relate_364 (by decide) ?_
        refine x_icmp_eq (tgt := 377) dX12_relate_365 (by decide) (fun c14 => ?_) (fun c14 => ?_)
        · replace hq := hq.1 c14
          refine xP.pick (lv' := [(0, rv x0), (1, .long x1), (5, .double x5), (8, rv x8), (9, rv x9), (11, .int (aI h (fR h x0 3082) (Int32.toNatClampNeg x10)))]) [2, 3, 5, 7, 8, 1] rfl ?_
          exact uX12_relate_377 hq
        · replace hq := hq.2 c14
          refine x_aload 8 dX12_relate_368 rfl ?_
          obtain ⟨g15, hq⟩ := hq
          refine x_get (v := .int (fI h7 x9 3328)) fdX12_845 dX12_relate_370 g15 rfl ?_
          refine x_iconst (v := 2) dX12_relate_373 (by decide) ?_
          refine x_icmp_ne (tgt := 453) dX12_relate_374 (by decide) (fun c16 => ?_) (fun c16 => ?_)
          · replace hq := hq.1 c16
            refine x_iload 1 dX12_relate_453 rfl ?_
            refine x_lload_n 3 dX12_relate_455 rfl ?_
            refine x_aload_n 2 dX12_relate_456 rfl ?_
            have t17 : tg h7 x0 = 13 := e9.tg g1 (by decide)
            refine x_get (v := .long (fJ h7 x0 3177)) fdX12_1145 dX12_relate_457 t17 rfl ?_
            refine x_lcmp dX12_relate_460 ?_
            refine x_if_ge (tgt := 468) dX12_relate_461 (by decide) (fun c18 => ?_) (fun c18 => ?_)
            · replace hq := hq.1 c18
              refine x_lload_n 3 dX12_relate_468 rfl ?_
              refine x_aload_n 2 dX12_relate_469 rfl ?_
              refine x_get (v := .long (fJ h7 x0 3177)) fdX12_1145 dX12_relate_470 t17 rfl ?_
              refine x_lcmp dX12_relate_473 ?_
              refine x_if_le (tgt := 481) dX12_relate_474 (by decide) (fun c19 => ?_) (fun c19 => ?_)
              · replace hq := hq.1 c19
                refine x_iconst (v := 0) dX12_relate_481 (by decide) ?_
                refine xP.pick (lv' := [(0, rv x0)]) [2] rfl ?_
                exact uX12_relate_482 hq
              · replace hq := hq.2 c19
                refine x_iconst (v := 1) dX12_relate_477 (by decide) ?_
                refine x_goto (tgt := 482) dX12_relate_478 (by decide) ?_
                refine xP.pick (lv' := [(0, rv x0)]) [2] rfl ?_
                exact uX12_relate_482 hq
            · replace hq := hq.2 c18
              refine x_iconst (v := (-1)) dX12_relate_464 (by decide) ?_
              refine x_goto (tgt := 482) dX12_relate_465 (by decide) ?_
              refine xP.pick (lv' := [(0, rv x0)]) [2] rfl ?_
              exact uX12_relate_482 hq
          · replace hq := hq.2 c16
            refine xP.pick (lv' := [(0, rv x0), (1, .long x1), (5, .double x5), (8, rv x8), (9, rv x9), (11, .int (aI h (fR h x0 3082) (Int32.toNatClampNeg x10)))]) [2, 3, 5, 7, 8, 1] rfl ?_
            exact uX12_relate_377 hq
      · replace hq := hq.2 c13
        refine x_iload 0 dX12_relate_236 rfl ?_
        refine x_aload_n 2 dX12_relate_238 rfl ?_
        have t20 : tg h7 x0 = 13 := e9.tg g1 (by decide)
        refine x_get (v := .int (fI h7 x0 3175)) fdX12_1223 dX12_relate_239 t20 rfl ?_
        refine x_aload_n 2 dX12_relate_242 rfl ?_
        refine x_get (v := .int (fI h7 x0 3176)) fdX12_1226 dX12_relate_243 t20 rfl ?_
        refine x_isub dX12_relate_246 ?_
        refine x_icmp_le (tgt := 259) dX12_relate_247 (by decide) (fun c21 => ?_) (fun c21 => ?_)
        · replace hq := hq.1 c21
          refine x_aload_n 2 dX12_relate_259 rfl ?_
          refine x_dup dX12_relate_260 (rv_cat _) ?_
          refine x_get (v := .int (fI h7 x0 3176)) fdX12_1226 dX12_relate_261 t20 rfl ?_
          refine x_iload 0 dX12_relate_264 rfl ?_
          refine x_iadd dX12_relate_266 ?_
          obtain ⟨h22, e23⟩ : ∃ y, y = sI h7 x0 3176 ((fI h7 x0 3176) + x8) := ⟨_, rfl⟩
          replace hq := hq h22 e23
          refine x_putI fdX12_1226 xty_I1 dX12_relate_267 t20 (Or.inl (by rw [t20]; rfl)) xnI rfl e23 ?_
          refine x_aload_n 2 dX12_relate_270 rfl ?_
          refine x_iload 6 dX12_relate_271 rfl ?_
          refine x_iload 0 dX12_relate_273 rfl ?_
          have t24 : tg h22 x0 = 13 := by rw [e23]; exact t20
          obtain ⟨g25, g26, hq⟩ := hq
          refine x_callV (Yc := YX12_isWhole) (as := [.int x7, .int x8]) (st := []) q4682 mvX12_isWhole t24 rfl dX12_relate_275 (xle (xal1 (rv_cat _) (xal1 rfl (xal1 rfl xal0))) (by decide)) (xfr g25) (xlo xsw0 (by decide) g26) (xKi hq (fun x28 h27 hq e29 => ?_) (fun _ _ q _ => q))
          replace hq := hq e29
          refine x_if_eq (tgt := 294) dX12_relate_278 (by decide) (fun c30 => ?_) (fun c30 => ?_)
          · replace hq := hq.1 c30
            refine xP.pick (lv' := [(0, rv x0), (10, .int x10)]) [2, 9] rfl ?_
            exact uX12_relate_294 hq
          · replace hq := hq.2 c30
            refine x_aload_n 2 dX12_relate_281 rfl ?_
            refine x_aload_n 2 dX12_relate_282 rfl ?_
            have t31 : tg h27 x0 = 13 := e29.tg t24 (by decide)
            refine x_get (v := .int (fI h27 x0 3180)) fdX12_1136 dX12_relate_283 t31 rfl ?_
            refine x_iload 0 dX12_relate_286 rfl ?_
            obtain ⟨g32, g33, hq⟩ := hq
            refine x_callV (Yc := YX12_isWhole) (as := [.int (fI h27 x0 3180), .int x8]) (st := []) q4682 mvX12_isWhole t31 rfl dX12_relate_288 (xle (xal1 (rv_cat _) (xal1 rfl (xal1 rfl xal0))) (by decide)) (xfr g32) (xlo xsw0 (by decide) g33) (xKi hq (fun x35 h34 hq e36 => ?_) (fun _ _ q _ => q))
            replace hq := hq e36
            refine x_if_ne (tgt := 302) dX12_relate_291 (by decide) (fun c37 => ?_) (fun c37 => ?_)
            · replace hq := hq.1 c37
              refine x_iconst (v := 0) dX12_relate_302 (by decide) ?_
              refine x_istore (lv' := [(14, .int 0), (13, .int x8), (11, .int (aI h (fR h x0 3082) (Int32.toNatClampNeg x10))), (0, rv x0), (1, .long x1), (3, .long x3), (5, .double x5), (7, .int x7), (8, rv x8), (9, rv x9), (10, .int x10)]) dX12_relate_303 (by decide) rfl ?_
              refine x_iconst (v := 0) dX12_relate_305 (by decide) ?_
              refine x_istore (lv' := [(15, .int 0), (14, .int 0), (13, .int x8), (11, .int (aI h (fR h x0 3082) (Int32.toNatClampNeg x10))), (0, rv x0), (1, .long x1), (3, .long x3), (5, .double x5), (7, .int x7), (8, rv x8), (9, rv x9), (10, .int x10)]) dX12_relate_306 (by decide) rfl ?_
              refine xP.pick (lv' := [(0, rv x0), (7, .int x7), (11, .int (aI h (fR h x0 3082) (Int32.toNatClampNeg x10))), (13, .int x8), (14, .int 0), (15, .int 0)]) [4, 8, 3, 2, 1, 0] rfl ?_
              exact hq
            · replace hq := hq.2 c37
              refine xP.pick (lv' := [(0, rv x0), (10, .int x10)]) [2, 9] rfl ?_
              exact uX12_relate_294 hq
        · replace hq := hq.2 c21
          refine x_aload_n 2 dX12_relate_250 rfl ?_
          refine x_bipush (v := 15) dX12_relate_251 (by decide) ?_
          refine x_iload 9 dX12_relate_253 rfl ?_
          obtain ⟨g38, g39, hq⟩ := hq
          refine x_callV (Yc := YX12_error) (as := [.int 15, .int x10]) (st := []) q4490 mvX12_error t20 rfl dX12_relate_255 (xle (xal1 (rv_cat _) (xal1 rfl (xal1 rfl xal0))) (by decide)) (xfr g38) (xlo xsw0 (by decide) g39) (xKv hq (fun h40 hq e42 => ?_) (fun _ _ q _ => q))
          replace hq := hq e42
          exact x_vret rfl dX12_relate_258 hq
    · replace hq := hq.2 c12
      refine x_lload_n 3 dX12_relate_93 rfl ?_
      refine x_aload_n 2 dX12_relate_94 rfl ?_
      have t43 : tg h7 x0 = 13 := e9.tg g1 (by decide)
      refine x_get (v := .long (fJ h7 x0 3177)) fdX12_1145 dX12_relate_95 t43 rfl ?_
      refine x_ldc2 (v := (-1)) q4606 dX12_relate_98 ?_
      refine x_lxor dX12_relate_101 ?_
      refine x_land dX12_relate_102 ?_
      refine x_lconst (v := 0) dX12_relate_103 (by decide) ?_
      refine x_lcmp dX12_relate_104 ?_
      refine x_if_ne (tgt := 127) dX12_relate_105 (by decide) (fun c44 => ?_) (fun c44 => ?_)
      · replace hq := hq.1 c44
        refine xP.pick (lv' := [(0, rv x0), (1, .long x1), (3, .long x3), (11, .int (aI h (fR h x0 3082) (Int32.toNatClampNeg x10)))]) [2, 3, 4, 1] rfl ?_
        exact uX12_relate_127 hq
      · replace hq := hq.2 c44
        refine x_lload_n 4 dX12_relate_108 rfl ?_
        refine x_aload_n 2 dX12_relate_109 rfl ?_
        refine x_get (v := .long (fJ h7 x0 3178)) fdX12_1148 dX12_relate_110 t43 rfl ?_
        refine x_ldc2 (v := (-1)) q4606 dX12_relate_113 ?_
        refine x_lxor dX12_relate_116 ?_
        refine x_land dX12_relate_117 ?_
        refine x_lconst (v := 0) dX12_relate_118 (by decide) ?_
        refine x_lcmp dX12_relate_119 ?_
        refine x_if_ne (tgt := 127) dX12_relate_120 (by decide) (fun c45 => ?_) (fun c45 => ?_)
        · replace hq := hq.1 c45
          refine xP.pick (lv' := [(0, rv x0), (1, .long x1), (3, .long x3), (11, .int (aI h (fR h x0 3082) (Int32.toNatClampNeg x10)))]) [2, 3, 4, 1] rfl ?_
          exact uX12_relate_127 hq
        · replace hq := hq.2 c45
          refine x_iconst (v := 1) dX12_relate_123 (by decide) ?_
          refine x_goto (tgt := 128) dX12_relate_124 (by decide) ?_
          refine xP.pick (lv' := [(0, rv x0), (1, .long x1), (3, .long x3), (11, .int (aI h (fR h x0 3082) (Int32.toNatClampNeg x10)))]) [2, 3, 4, 1] rfl ?_
          exact uX12_relate_128 hq
  · replace hq := hq.2 c10
    refine x_lload_n 3 dX12_relate_23 rfl ?_
    refine x_lconst (v := 0) dX12_relate_24 (by decide) ?_
    refine x_lcmp dX12_relate_25 ?_
    refine x_if_lt (tgt := 77) dX12_relate_26 (by decide) (fun c46 => ?_) (fun c46 => ?_)
    · replace hq := hq.1 c46
      refine xP.pick (lv' := [(0, rv x0)]) [2] rfl ?_
      exact uX12_relate_77 hq
    · replace hq := hq.2 c46
      refine x_lload_n 3 dX12_relate_29 rfl ?_
      refine x_ldc2 (v := 128) q4680 dX12_relate_30 ?_
      refine x_lcmp dX12_relate_33 ?_
      refine x_if_ge (tgt := 77) dX12_relate_34 (by decide) (fun c47 => ?_) (fun c47 => ?_)
      · replace hq := hq.1 c47
        refine xP.pick (lv' := [(0, rv x0)]) [2] rfl ?_
        exact uX12_relate_77 hq
      · replace hq := hq.2 c47
        refine x_lload_n 3 dX12_relate_37 rfl ?_
        refine x_ldc2 (v := 64) q4681 dX12_relate_38 ?_
        refine x_lcmp dX12_relate_41 ?_
        refine x_if_ge (tgt := 55) dX12_relate_42 (by decide) (fun c48 => ?_) (fun c48 => ?_)
        · replace hq := hq.1 c48
          refine x_aload_n 2 dX12_relate_55 rfl ?_
          have t49 : tg h7 x0 = 13 := e9.tg g1 (by decide)
          refine x_get (v := .long (fJ h7 x0 3178)) fdX12_1148 dX12_relate_56 t49 rfl ?_
          refine x_lload_n 3 dX12_relate_59 rfl ?_
          refine x_ldc2 (v := 64) q4681 dX12_relate_60 ?_
          refine x_lsub dX12_relate_63 ?_
          refine x_l2i dX12_relate_64 ?_
          refine x_lshr dX12_relate_65 ?_
          refine xP.pick (lv' := [(0, rv x0)]) [2] rfl ?_
          exact uX12_relate_66 hq
        · replace hq := hq.2 c48
          refine x_aload_n 2 dX12_relate_45 rfl ?_
          have t50 : tg h7 x0 = 13 := e9.tg g1 (by decide)
          refine x_get (v := .long (fJ h7 x0 3177)) fdX12_1145 dX12_relate_46 t50 rfl ?_
          refine x_lload_n 3 dX12_relate_49 rfl ?_
          refine x_l2i dX12_relate_50 ?_
          refine x_lshr dX12_relate_51 ?_
          refine x_goto (tgt := 66) dX12_relate_52 (by decide) ?_
          refine xP.pick (lv' := [(0, rv x0)]) [2] rfl ?_
          exact uX12_relate_66 hq
theorem rX12_relate {G : xG} {fr lo : Nat} {x0 : Nat} {x1 : Int64} {x3 : Int64} {x5 : UInt64} {x7 : Int32} {x8 : Nat} {x9 : Nat} {x10 : Int32} {h : xH} {Q : Outcome → xH → Prop} (hq : bX12_relate G fr lo x0 x1 x3 x5 x7 x8 x9 x10 h Q) : xR G YX12_relate fr lo [rv x0, .long x1, .long x3, .double x5, .int x7, rv x8, rv x9, .int x10] h Q := by
  show xP _ _ _ _ _ (lv_args 0 _) _ _ _
  rw [show lv_args 0 [rv x0, .long x1, .long x3, .double x5, .int x7, rv x8, rv x9, .int x10] = [(0, rv x0), (1, .long x1), (3, .long x3), (5, .double x5), (7, .int x7), (8, rv x8), (9, rv x9), (10, .int x10)] from (xla1 (rv_cat _) (xla2 rfl (xla2 rfl (xla2 rfl (xla1 rfl (xla1 (rv_cat _) (xla1 (rv_cat _) (xla1 rfl xla0))))))))]
  exact uX12_relate hq
set_option maxRecDepth 100000 in
theorem dX12_isWhole_0 : decode cX12_isWhole 0 = .ok (.iconst 1, 1) := by decide +kernel
set_option maxRecDepth 100000 in
theorem dX12_isWhole_1 : decode cX12_isWhole 1 = .ok (.istore_n 3, 1) := by decide +kernel
set_option maxRecDepth 100000 in
theorem dX12_isWhole_2 : decode cX12_isWhole 2 = .ok (.iconst 0, 1) := by decide +kernel
set_option maxRecDepth 100000 in
theorem dX12_isWhole_3 : decode cX12_isWhole 3 = .ok (.istore 4, 2) := by decide +kernel
set_option maxRecDepth 100000 in
theorem dX12_isWhole_5 : decode cX12_isWhole 5 = .ok (.iload 4, 2) := by decide +kernel
set_option maxRecDepth 100000 in
theorem dX12_isWhole_7 : decode cX12_isWhole 7 = .ok (.iload_n 2, 1) := by decide +kernel
set_option maxRecDepth 100000 in
theorem dX12_isWhole_8 : decode cX12_isWhole 8 = .ok (.if_icmp .ge 35, 3) := by decide +kernel
set_option maxRecDepth 100000 in
theorem dX12_isWhole_11 : decode cX12_isWhole 11 = .ok (.iload_n 1, 1) := by decide +kernel
set_option maxRecDepth 100000 in
theorem dX12_isWhole_12 : decode cX12_isWhole 12 = .ok (.ifCond .lt 31, 3) := by decide +kernel
set_option maxRecDepth 100000 in
theorem dX12_isWhole_15 : decode cX12_isWhole 15 = .ok (.iload_n 3, 1) := by decide +kernel
set_option maxRecDepth 100000 in
theorem dX12_isWhole_16 : decode cX12_isWhole 16 = .ok (.ifCond .eq 19, 3) := by decide +kernel
set_option maxRecDepth 100000 in
theorem dX12_isWhole_19 : decode cX12_isWhole 19 = .ok (.aload_n 0, 1) := by decide +kernel
set_option maxRecDepth 100000 in
theorem dX12_isWhole_20 : decode cX12_isWhole 20 = .ok (.getfield 169, 3) := by decide +kernel
set_option maxRecDepth 100000 in
theorem dX12_isWhole_23 : decode cX12_isWhole 23 = .ok (.iload_n 1, 1) := by decide +kernel
set_option maxRecDepth 100000 in
theorem dX12_isWhole_24 : decode cX12_isWhole 24 = .ok (.iload 4, 2) := by decide +kernel
set_option maxRecDepth 100000 in
theorem dX12_isWhole_26 : decode cX12_isWhole 26 = .ok (.iadd, 1) := by decide +kernel
set_option maxRecDepth 100000 in
theorem dX12_isWhole_27 : decode cX12_isWhole 27 = .ok (.baload, 1) := by decide +kernel
set_option maxRecDepth 100000 in
theorem dX12_isWhole_28 : decode cX12_isWhole 28 = .ok (.ifCond .eq 7, 3) := by decide +kernel
set_option maxRecDepth 100000 in
theorem dX12_isWhole_31 : decode cX12_isWhole 31 = .ok (.iconst 1, 1) := by decide +kernel
set_option maxRecDepth 100000 in
theorem dX12_isWhole_32 : decode cX12_isWhole 32 = .ok (.goto 4, 3) := by decide +kernel
set_option maxRecDepth 100000 in
theorem dX12_isWhole_35 : decode cX12_isWhole 35 = .ok (.iconst 0, 1) := by decide +kernel
set_option maxRecDepth 100000 in
theorem dX12_isWhole_36 : decode cX12_isWhole 36 = .ok (.istore_n 3, 1) := by decide +kernel
set_option maxRecDepth 100000 in
theorem dX12_isWhole_37 : decode cX12_isWhole 37 = .ok (.iinc 4 1, 3) := by decide +kernel
set_option maxRecDepth 100000 in
theorem dX12_isWhole_40 : decode cX12_isWhole 40 = .ok (.goto (-35), 3) := by decide +kernel
set_option maxRecDepth 100000 in
theorem dX12_isWhole_43 : decode cX12_isWhole 43 = .ok (.iload_n 3, 1) := by decide +kernel
set_option maxRecDepth 100000 in
theorem dX12_isWhole_44 : decode cX12_isWhole 44 = .ok (.ireturn, 1) := by decide +kernel
def lX12_isWhole_5 (G : xG) (fr lo : Nat) (x0 : Nat) (x1 : Int32) (x2 : Int32) (x3 : Int32) (x4 : Int32) (h : xH) (Q : Outcome → xH → Prop) : Prop := xP G YX12_isWhole fr lo 5 [(0, rv x0), (1, .int x1), (2, .int x2), (3, .int x3), (4, .int x4)] [] h Q
set_option maxRecDepth 100000 in
def bX12_isWhole_43 (G : xG) (fr lo : Nat) (x3 : Int32) (h : xH) (Q : Outcome → xH → Prop) : Prop := xbz x3 ∧ Q (.returned (some (.int x3))) h
set_option maxRecDepth 100000 in
theorem uX12_isWhole_43 {G : xG} {fr lo : Nat} {x3 : Int32} {h : xH} {Q : Outcome → xH → Prop} (hq : bX12_isWhole_43 G fr lo x3 h Q) : xP G YX12_isWhole fr lo 43 [(3, .int x3)] [] h Q := by
  unfold bX12_isWhole_43 at hq
  refine x_iload_n 0 dX12_isWhole_43 rfl ?_
  obtain ⟨g1, hq⟩ := hq
  exact x_iret rfl (xnZ g1) dX12_isWhole_44 hq
set_option maxRecDepth 100000 in
def bX12_isWhole_36 (G : xG) (fr lo : Nat) (x0 : Nat) (x1 : Int32) (x2 : Int32) (x4 : Int32) (s0 : Int32) (h : xH) (Q : Outcome → xH → Prop) : Prop := lX12_isWhole_5 G fr lo x0 x1 x2 s0 (x4 + 1) h Q
set_option maxRecDepth 100000 in
theorem uX12_isWhole_36 {G : xG} {fr lo : Nat} {x0 : Nat} {x1 : Int32} {x2 : Int32} {x4 : Int32} {s0 : Int32} {h : xH} {Q : Outcome → xH → Prop} (hq : bX12_isWhole_36 G fr lo x0 x1 x2 x4 s0 h Q) : xP G YX12_isWhole fr lo 36 [(0, rv x0), (1, .int x1), (2, .int x2), (4, .int x4)] [.int s0] h Q := by
  unfold bX12_isWhole_36 at hq
  refine x_istore_n (lv' := [(3, .int s0), (0, rv x0), (1, .int x1), (2, .int x2), (4, .int x4)]) dX12_isWhole_36 (by decide) rfl ?_
  refine x_iinc (lv' := [(4, .int (x4 + 1)), (3, .int s0), (0, rv x0), (1, .int x1), (2, .int x2)]) 4 dX12_isWhole_37 rfl (by decide) rfl ?_
  refine x_goto (tgt := 5) dX12_isWhole_40 (by decide) ?_
  refine xP.pick (lv' := [(0, rv x0), (1, .int x1), (2, .int x2), (3, .int s0), (4, .int (x4 + 1))]) [2, 3, 4, 1, 0] rfl ?_
  exact hq
set_option maxRecDepth 100000 in
def bX12_isWhole_35 (G : xG) (fr lo : Nat) (x0 : Nat) (x1 : Int32) (x2 : Int32) (x4 : Int32) (h : xH) (Q : Outcome → xH → Prop) : Prop := bX12_isWhole_36 G fr lo x0 x1 x2 x4 0 h Q
set_option maxRecDepth 100000 in
theorem uX12_isWhole_35 {G : xG} {fr lo : Nat} {x0 : Nat} {x1 : Int32} {x2 : Int32} {x4 : Int32} {h : xH} {Q : Outcome → xH → Prop} (hq : bX12_isWhole_35 G fr lo x0 x1 x2 x4 h Q) : xP G YX12_isWhole fr lo 35 [(0, rv x0), (1, .int x1), (2, .int x2), (4, .int x4)] [] h Q := by
  unfold bX12_isWhole_35 at hq
  refine x_iconst (v := 0) dX12_isWhole_35 (by decide) ?_
  exact uX12_isWhole_36 hq
set_option maxRecDepth 100000 in
def bX12_isWhole_5 (G : xG) (fr lo : Nat) (x0 : Nat) (x1 : Int32) (x2 : Int32) (x3 : Int32) (x4 : Int32) (h : xH) (Q : Outcome → xH → Prop) : Prop := ((x2 ≤ x4 → bX12_isWhole_43 G fr lo x3 h Q) ∧ (¬ x2 ≤ x4 → ((x1 < 0 → bX12_isWhole_43 G fr lo x3 h Q) ∧ (¬ x1 < 0 → ((x3 = 0 → bX12_isWhole_35 G fr lo x0 x1 x2 x4 h Q) ∧ (¬ x3 = 0 → tg h x0 = 13 ∧ tg h (fR h x0 3150) = 104 ∧ vp_in (x1 + x4) (ln h (fR h x0 3150)) ∧ (((aI h (fR h x0 3150) (Int32.toNatClampNeg (x1 + x4))) = 0 → bX12_isWhole_35 G fr lo x0 x1 x2 x4 h Q) ∧ (¬ (aI h (fR h x0 3150) (Int32.toNatClampNeg (x1 + x4))) = 0 → bX12_isWhole_36 G fr lo x0 x1 x2 x4 1 h Q))))))))
set_option maxRecDepth 100000 in
theorem uX12_isWhole_5 {G : xG} {fr lo : Nat} {x0 : Nat} {x1 : Int32} {x2 : Int32} {x3 : Int32} {x4 : Int32} {h : xH} {Q : Outcome → xH → Prop} (hq : bX12_isWhole_5 G fr lo x0 x1 x2 x3 x4 h Q) : xP G YX12_isWhole fr lo 5 [(0, rv x0), (1, .int x1), (2, .int x2), (3, .int x3), (4, .int x4)] [] h Q := by
  unfold bX12_isWhole_5 at hq
  refine x_iload 4 dX12_isWhole_5 rfl ?_
  refine x_iload_n 2 dX12_isWhole_7 rfl ?_
  refine x_icmp_ge (tgt := 43) dX12_isWhole_8 (by decide) (fun c1 => ?_) (fun c1 => ?_)
  · replace hq := hq.1 c1
    refine xP.pick (lv' := [(3, .int x3)]) [3] rfl ?_
    exact uX12_isWhole_43 hq
  · replace hq := hq.2 c1
    refine x_iload_n 1 dX12_isWhole_11 rfl ?_
    refine x_if_lt (tgt := 43) dX12_isWhole_12 (by decide) (fun c2 => ?_) (fun c2 => ?_)
    · replace hq := hq.1 c2
      refine xP.pick (lv' := [(3, .int x3)]) [3] rfl ?_
      exact uX12_isWhole_43 hq
    · replace hq := hq.2 c2
      refine x_iload_n 3 dX12_isWhole_15 rfl ?_
      refine x_if_eq (tgt := 35) dX12_isWhole_16 (by decide) (fun c3 => ?_) (fun c3 => ?_)
      · replace hq := hq.1 c3
        refine xP.pick (lv' := [(0, rv x0), (1, .int x1), (2, .int x2), (4, .int x4)]) [0, 1, 2, 4] rfl ?_
        exact uX12_isWhole_35 hq
      · replace hq := hq.2 c3
        refine x_aload_n 0 dX12_isWhole_19 rfl ?_
        obtain ⟨g4, hq⟩ := hq
        refine x_get (v := rv (fR h x0 3150)) fdX12_169 dX12_isWhole_20 g4 rfl ?_
        refine x_iload_n 1 dX12_isWhole_23 rfl ?_
        refine x_iload 4 dX12_isWhole_24 rfl ?_
        refine x_iadd dX12_isWhole_26 ?_
        obtain ⟨g5, hq⟩ := hq
        obtain ⟨i6, hq⟩ := hq
        refine x_zald g5 i6 dX12_isWhole_27 ?_
        refine x_if_eq (tgt := 35) dX12_isWhole_28 (by decide) (fun c7 => ?_) (fun c7 => ?_)
        · replace hq := hq.1 c7
          refine xP.pick (lv' := [(0, rv x0), (1, .int x1), (2, .int x2), (4, .int x4)]) [0, 1, 2, 4] rfl ?_
          exact uX12_isWhole_35 hq
        · replace hq := hq.2 c7
          refine x_iconst (v := 1) dX12_isWhole_31 (by decide) ?_
          refine x_goto (tgt := 36) dX12_isWhole_32 (by decide) ?_
          refine xP.pick (lv' := [(0, rv x0), (1, .int x1), (2, .int x2), (4, .int x4)]) [0, 1, 2, 4] rfl ?_
          exact uX12_isWhole_36 hq
set_option maxRecDepth 100000 in
def bX12_isWhole (G : xG) (fr lo : Nat) (x0 : Nat) (x1 : Int32) (x2 : Int32) (h : xH) (Q : Outcome → xH → Prop) : Prop := lX12_isWhole_5 G fr lo x0 x1 x2 1 0 h Q
set_option maxRecDepth 100000 in
theorem uX12_isWhole {G : xG} {fr lo : Nat} {x0 : Nat} {x1 : Int32} {x2 : Int32} {h : xH} {Q : Outcome → xH → Prop} (hq : bX12_isWhole G fr lo x0 x1 x2 h Q) : xP G YX12_isWhole fr lo 0 [(0, rv x0), (1, .int x1), (2, .int x2)] [] h Q := by
  unfold bX12_isWhole at hq
  refine x_iconst (v := 1) dX12_isWhole_0 (by decide) ?_
  refine x_istore_n (lv' := [(3, .int 1), (0, rv x0), (1, .int x1), (2, .int x2)]) dX12_isWhole_1 (by decide) rfl ?_
  refine x_iconst (v := 0) dX12_isWhole_2 (by decide) ?_
  refine x_istore (lv' := [(4, .int 0), (3, .int 1), (0, rv x0), (1, .int x1), (2, .int x2)]) dX12_isWhole_3 (by decide) rfl ?_
  refine xP.pick (lv' := [(0, rv x0), (1, .int x1), (2, .int x2), (3, .int 1), (4, .int 0)]) [2, 3, 4, 1, 0] rfl ?_
  exact hq
theorem rX12_isWhole {G : xG} {fr lo : Nat} {x0 : Nat} {x1 : Int32} {x2 : Int32} {h : xH} {Q : Outcome → xH → Prop} (hq : bX12_isWhole G fr lo x0 x1 x2 h Q) : xR G YX12_isWhole fr lo [rv x0, .int x1, .int x2] h Q := by
  show xP _ _ _ _ _ (lv_args 0 _) _ _ _
  rw [show lv_args 0 [rv x0, .int x1, .int x2] = [(0, rv x0), (1, .int x1), (2, .int x2)] from (xla1 (rv_cat _) (xla1 rfl (xla1 rfl xla0)))]
  exact uX12_isWhole hq
set_option maxRecDepth 100000 in
theorem dX12_signAt_0 : decode cX12_signAt 0 = .ok (.iload_n 1, 1) := by decide +kernel
set_option maxRecDepth 100000 in
theorem dX12_signAt_1 : decode cX12_signAt 1 = .ok (.iconst (-1), 1) := by decide +kernel
set_option maxRecDepth 100000 in
theorem dX12_signAt_2 : decode cX12_signAt 2 = .ok (.if_icmp .ge 22, 3) := by decide +kernel
set_option maxRecDepth 100000 in
theorem dX12_signAt_5 : decode cX12_signAt 5 = .ok (.aload_n 0, 1) := by decide +kernel
set_option maxRecDepth 100000 in
theorem dX12_signAt_6 : decode cX12_signAt 6 = .ok (.getfield 42, 3) := by decide +kernel
set_option maxRecDepth 100000 in
theorem dX12_signAt_9 : decode cX12_signAt 9 = .ok (.aload_n 0, 1) := by decide +kernel
set_option maxRecDepth 100000 in
theorem dX12_signAt_10 : decode cX12_signAt 10 = .ok (.getfield 32, 3) := by decide +kernel
set_option maxRecDepth 100000 in
theorem dX12_signAt_13 : decode cX12_signAt 13 = .ok (.bipush (-2), 2) := by decide +kernel
set_option maxRecDepth 100000 in
theorem dX12_signAt_15 : decode cX12_signAt 15 = .ok (.iload_n 1, 1) := by decide +kernel
set_option maxRecDepth 100000 in
theorem dX12_signAt_16 : decode cX12_signAt 16 = .ok (.isub, 1) := by decide +kernel
set_option maxRecDepth 100000 in
theorem dX12_signAt_17 : decode cX12_signAt 17 = .ok (.iaload, 1) := by decide +kernel
set_option maxRecDepth 100000 in
theorem dX12_signAt_18 : decode cX12_signAt 18 = .ok (.iload_n 2, 1) := by decide +kernel
set_option maxRecDepth 100000 in
theorem dX12_signAt_19 : decode cX12_signAt 19 = .ok (.iadd, 1) := by decide +kernel
set_option maxRecDepth 100000 in
theorem dX12_signAt_20 : decode cX12_signAt 20 = .ok (.baload, 1) := by decide +kernel
set_option maxRecDepth 100000 in
theorem dX12_signAt_21 : decode cX12_signAt 21 = .ok (.goto 12, 3) := by decide +kernel
set_option maxRecDepth 100000 in
theorem dX12_signAt_24 : decode cX12_signAt 24 = .ok (.aload_n 0, 1) := by decide +kernel
set_option maxRecDepth 100000 in
theorem dX12_signAt_25 : decode cX12_signAt 25 = .ok (.getfield 159, 3) := by decide +kernel
set_option maxRecDepth 100000 in
theorem dX12_signAt_28 : decode cX12_signAt 28 = .ok (.iload_n 1, 1) := by decide +kernel
set_option maxRecDepth 100000 in
theorem dX12_signAt_29 : decode cX12_signAt 29 = .ok (.iload_n 2, 1) := by decide +kernel
set_option maxRecDepth 100000 in
theorem dX12_signAt_30 : decode cX12_signAt 30 = .ok (.iadd, 1) := by decide +kernel
set_option maxRecDepth 100000 in
theorem dX12_signAt_31 : decode cX12_signAt 31 = .ok (.laload, 1) := by decide +kernel
set_option maxRecDepth 100000 in
theorem dX12_signAt_32 : decode cX12_signAt 32 = .ok (.l2i, 1) := by decide +kernel
set_option maxRecDepth 100000 in
theorem dX12_signAt_33 : decode cX12_signAt 33 = .ok (.ireturn, 1) := by decide +kernel
set_option maxRecDepth 100000 in
def bX12_signAt_33 (G : xG) (fr lo : Nat) (s0 : Int32) (h : xH) (Q : Outcome → xH → Prop) : Prop := Q (.returned (some (.int s0))) h
set_option maxRecDepth 100000 in
theorem uX12_signAt_33 {G : xG} {fr lo : Nat} {s0 : Int32} {h : xH} {Q : Outcome → xH → Prop} (hq : bX12_signAt_33 G fr lo s0 h Q) : xP G YX12_signAt fr lo 33 [] [.int s0] h Q := by
  unfold bX12_signAt_33 at hq
  exact x_iret rfl rfl dX12_signAt_33 hq
set_option maxRecDepth 100000 in
def bX12_signAt (G : xG) (fr lo : Nat) (x0 : Nat) (x1 : Int32) (x2 : Int32) (h : xH) (Q : Outcome → xH → Prop) : Prop := (((-1) ≤ x1 → tg h x0 = 13 ∧ tg h (fR h x0 3147) = 101 ∧ vp_in (x1 + x2) (ln h (fR h x0 3147)) ∧ bX12_signAt_33 G fr lo (Int64.toInt32 (aJ h (fR h x0 3147) (Int32.toNatClampNeg (x1 + x2)))) h Q) ∧ (¬ (-1) ≤ x1 → tg h x0 = 13 ∧ tg h (fR h x0 3084) = 100 ∧ vp_in ((-2) - x1) (ln h (fR h x0 3084)) ∧ tg h (fR h x0 3088) = 103 ∧ vp_in ((aI h (fR h x0 3084) (Int32.toNatClampNeg ((-2) - x1))) + x2) (ln h (fR h x0 3088)) ∧ bX12_signAt_33 G fr lo (aI h (fR h x0 3088) (Int32.toNatClampNeg ((aI h (fR h x0 3084) (Int32.toNatClampNeg ((-2) - x1))) + x2))) h Q))
set_option maxRecDepth 100000 in
theorem uX12_signAt {G : xG} {fr lo : Nat} {x0 : Nat} {x1 : Int32} {x2 : Int32} {h : xH} {Q : Outcome → xH → Prop} (hq : bX12_signAt G fr lo x0 x1 x2 h Q) : xP G YX12_signAt fr lo 0 [(0, rv x0), (1, .int x1), (2, .int x2)] [] h Q := by
  unfold bX12_signAt at hq
  refine x_iload_n 1 dX12_signAt_0 rfl ?_
  refine x_iconst (v := (-1)) dX12_signAt_1 (by decide) ?_
  refine x_icmp_ge (tgt := 24) dX12_signAt_2 (by decide) (fun c1 => ?_) (fun c1 => ?_)
  · replace hq := hq.1 c1
    refine x_aload_n 0 dX12_signAt_24 rfl ?_
    obtain ⟨g2, hq⟩ := hq
    refine x_get (v := rv (fR h x0 3147)) fdX12_159 dX12_signAt_25 g2 rfl ?_
    refine x_iload_n 1 dX12_signAt_28 rfl ?_
    refine x_iload_n 2 dX12_signAt_29 rfl ?_
    refine x_iadd dX12_signAt_30 ?_
    obtain ⟨g3, hq⟩ := hq
    obtain ⟨i4, hq⟩ := hq
    refine x_lald g3 i4 dX12_signAt_31 ?_
    refine x_l2i dX12_signAt_32 ?_
    refine xP.pick (lv' := []) [] rfl ?_
    exact uX12_signAt_33 hq
  · replace hq := hq.2 c1
    refine x_aload_n 0 dX12_signAt_5 rfl ?_
    obtain ⟨g5, hq⟩ := hq
    refine x_get (v := rv (fR h x0 3088)) fdX12_42 dX12_signAt_6 g5 rfl ?_
    refine x_aload_n 0 dX12_signAt_9 rfl ?_
    refine x_get (v := rv (fR h x0 3084)) fdX12_32 dX12_signAt_10 g5 rfl ?_
    refine x_bipush (v := (-2)) dX12_signAt_13 (by decide) ?_
    refine x_iload_n 1 dX12_signAt_15 rfl ?_
    refine x_isub dX12_signAt_16 ?_
    obtain ⟨g6, hq⟩ := hq
    obtain ⟨i7, hq⟩ := hq
    refine x_iald 0 (Or.inl rfl) g6 i7 dX12_signAt_17 ?_
    refine x_iload_n 2 dX12_signAt_18 rfl ?_
    refine x_iadd dX12_signAt_19 ?_
    obtain ⟨g8, hq⟩ := hq
    obtain ⟨i9, hq⟩ := hq
    refine x_bald g8 i9 dX12_signAt_20 ?_
    refine x_goto (tgt := 33) dX12_signAt_21 (by decide) ?_
    refine xP.pick (lv' := []) [] rfl ?_
    exact uX12_signAt_33 hq
theorem rX12_signAt {G : xG} {fr lo : Nat} {x0 : Nat} {x1 : Int32} {x2 : Int32} {h : xH} {Q : Outcome → xH → Prop} (hq : bX12_signAt G fr lo x0 x1 x2 h Q) : xR G YX12_signAt fr lo [rv x0, .int x1, .int x2] h Q := by
  show xP _ _ _ _ _ (lv_args 0 _) _ _ _
  rw [show lv_args 0 [rv x0, .int x1, .int x2] = [(0, rv x0), (1, .int x1), (2, .int x2)] from (xla1 (rv_cat _) (xla1 rfl (xla1 rfl xla0)))]
  exact uX12_signAt hq
set_option maxRecDepth 100000 in
theorem dX12_holds_0 : decode cX12_holds 0 = .ok (.iload_n 0, 1) := by decide +kernel
set_option maxRecDepth 100000 in
theorem dX12_holds_1 : decode cX12_holds 1 = .ok (.bipush 54, 2) := by decide +kernel
set_option maxRecDepth 100000 in
theorem dX12_holds_3 : decode cX12_holds 3 = .ok (.if_icmp .ne 15, 3) := by decide +kernel
set_option maxRecDepth 100000 in
theorem dX12_holds_6 : decode cX12_holds 6 = .ok (.iload_n 1, 1) := by decide +kernel
set_option maxRecDepth 100000 in
theorem dX12_holds_7 : decode cX12_holds 7 = .ok (.ifCond .ne 7, 3) := by decide +kernel
set_option maxRecDepth 100000 in
theorem dX12_holds_10 : decode cX12_holds 10 = .ok (.iconst 1, 1) := by decide +kernel
set_option maxRecDepth 100000 in
theorem dX12_holds_11 : decode cX12_holds 11 = .ok (.goto 88, 3) := by decide +kernel
set_option maxRecDepth 100000 in
theorem dX12_holds_14 : decode cX12_holds 14 = .ok (.iconst 0, 1) := by decide +kernel
set_option maxRecDepth 100000 in
theorem dX12_holds_15 : decode cX12_holds 15 = .ok (.goto 84, 3) := by decide +kernel
set_option maxRecDepth 100000 in
theorem dX12_holds_18 : decode cX12_holds 18 = .ok (.iload_n 0, 1) := by decide +kernel
set_option maxRecDepth 100000 in
theorem dX12_holds_19 : decode cX12_holds 19 = .ok (.bipush 59, 2) := by decide +kernel
set_option maxRecDepth 100000 in
theorem dX12_holds_21 : decode cX12_holds 21 = .ok (.if_icmp .ne 15, 3) := by decide +kernel
set_option maxRecDepth 100000 in
theorem dX12_holds_24 : decode cX12_holds 24 = .ok (.iload_n 1, 1) := by decide +kernel
set_option maxRecDepth 100000 in
theorem dX12_holds_25 : decode cX12_holds 25 = .ok (.ifCond .eq 7, 3) := by decide +kernel
set_option maxRecDepth 100000 in
theorem dX12_holds_28 : decode cX12_holds 28 = .ok (.iconst 1, 1) := by decide +kernel
set_option maxRecDepth 100000 in
theorem dX12_holds_29 : decode cX12_holds 29 = .ok (.goto 70, 3) := by decide +kernel
set_option maxRecDepth 100000 in
theorem dX12_holds_32 : decode cX12_holds 32 = .ok (.iconst 0, 1) := by decide +kernel
set_option maxRecDepth 100000 in
theorem dX12_holds_33 : decode cX12_holds 33 = .ok (.goto 66, 3) := by decide +kernel
set_option maxRecDepth 100000 in
theorem dX12_holds_36 : decode cX12_holds 36 = .ok (.iload_n 0, 1) := by decide +kernel
set_option maxRecDepth 100000 in
theorem dX12_holds_37 : decode cX12_holds 37 = .ok (.bipush 55, 2) := by decide +kernel
set_option maxRecDepth 100000 in
theorem dX12_holds_39 : decode cX12_holds 39 = .ok (.if_icmp .ne 15, 3) := by decide +kernel
set_option maxRecDepth 100000 in
theorem dX12_holds_42 : decode cX12_holds 42 = .ok (.iload_n 1, 1) := by decide +kernel
set_option maxRecDepth 100000 in
theorem dX12_holds_43 : decode cX12_holds 43 = .ok (.ifCond .ge 7, 3) := by decide +kernel
set_option maxRecDepth 100000 in
theorem dX12_holds_46 : decode cX12_holds 46 = .ok (.iconst 1, 1) := by decide +kernel
set_option maxRecDepth 100000 in
theorem dX12_holds_47 : decode cX12_holds 47 = .ok (.goto 52, 3) := by decide +kernel
set_option maxRecDepth 100000 in
theorem dX12_holds_50 : decode cX12_holds 50 = .ok (.iconst 0, 1) := by decide +kernel
set_option maxRecDepth 100000 in
theorem dX12_holds_51 : decode cX12_holds 51 = .ok (.goto 48, 3) := by decide +kernel
set_option maxRecDepth 100000 in
theorem dX12_holds_54 : decode cX12_holds 54 = .ok (.iload_n 0, 1) := by decide +kernel
set_option maxRecDepth 100000 in
theorem dX12_holds_55 : decode cX12_holds 55 = .ok (.bipush 56, 2) := by decide +kernel
set_option maxRecDepth 100000 in
theorem dX12_holds_57 : decode cX12_holds 57 = .ok (.if_icmp .ne 15, 3) := by decide +kernel
set_option maxRecDepth 100000 in
theorem dX12_holds_60 : decode cX12_holds 60 = .ok (.iload_n 1, 1) := by decide +kernel
set_option maxRecDepth 100000 in
theorem dX12_holds_61 : decode cX12_holds 61 = .ok (.ifCond .le 7, 3) := by decide +kernel
set_option maxRecDepth 100000 in
theorem dX12_holds_64 : decode cX12_holds 64 = .ok (.iconst 1, 1) := by decide +kernel
set_option maxRecDepth 100000 in
theorem dX12_holds_65 : decode cX12_holds 65 = .ok (.goto 34, 3) := by decide +kernel
set_option maxRecDepth 100000 in
theorem dX12_holds_68 : decode cX12_holds 68 = .ok (.iconst 0, 1) := by decide +kernel
set_option maxRecDepth 100000 in
theorem dX12_holds_69 : decode cX12_holds 69 = .ok (.goto 30, 3) := by decide +kernel
set_option maxRecDepth 100000 in
theorem dX12_holds_72 : decode cX12_holds 72 = .ok (.iload_n 0, 1) := by decide +kernel
set_option maxRecDepth 100000 in
theorem dX12_holds_73 : decode cX12_holds 73 = .ok (.bipush 57, 2) := by decide +kernel
set_option maxRecDepth 100000 in
theorem dX12_holds_75 : decode cX12_holds 75 = .ok (.if_icmp .ne 15, 3) := by decide +kernel
set_option maxRecDepth 100000 in
theorem dX12_holds_78 : decode cX12_holds 78 = .ok (.iload_n 1, 1) := by decide +kernel
set_option maxRecDepth 100000 in
theorem dX12_holds_79 : decode cX12_holds 79 = .ok (.ifCond .gt 7, 3) := by decide +kernel
set_option maxRecDepth 100000 in
theorem dX12_holds_82 : decode cX12_holds 82 = .ok (.iconst 1, 1) := by decide +kernel
set_option maxRecDepth 100000 in
theorem dX12_holds_83 : decode cX12_holds 83 = .ok (.goto 16, 3) := by decide +kernel
set_option maxRecDepth 100000 in
theorem dX12_holds_86 : decode cX12_holds 86 = .ok (.iconst 0, 1) := by decide +kernel
set_option maxRecDepth 100000 in
theorem dX12_holds_87 : decode cX12_holds 87 = .ok (.goto 12, 3) := by decide +kernel
set_option maxRecDepth 100000 in
theorem dX12_holds_90 : decode cX12_holds 90 = .ok (.iload_n 1, 1) := by decide +kernel
set_option maxRecDepth 100000 in
theorem dX12_holds_91 : decode cX12_holds 91 = .ok (.ifCond .lt 7, 3) := by decide +kernel
set_option maxRecDepth 100000 in
theorem dX12_holds_94 : decode cX12_holds 94 = .ok (.iconst 1, 1) := by decide +kernel
set_option maxRecDepth 100000 in
theorem dX12_holds_95 : decode cX12_holds 95 = .ok (.goto 4, 3) := by decide +kernel
set_option maxRecDepth 100000 in
theorem dX12_holds_98 : decode cX12_holds 98 = .ok (.iconst 0, 1) := by decide +kernel
set_option maxRecDepth 100000 in
theorem dX12_holds_99 : decode cX12_holds 99 = .ok (.ireturn, 1) := by decide +kernel
set_option maxRecDepth 100000 in
def bX12_holds_99 (G : xG) (fr lo : Nat) (s0 : Int32) (h : xH) (Q : Outcome → xH → Prop) : Prop := xbz s0 ∧ Q (.returned (some (.int s0))) h
set_option maxRecDepth 100000 in
theorem uX12_holds_99 {G : xG} {fr lo : Nat} {s0 : Int32} {h : xH} {Q : Outcome → xH → Prop} (hq : bX12_holds_99 G fr lo s0 h Q) : xP G YX12_holds fr lo 99 [] [.int s0] h Q := by
  unfold bX12_holds_99 at hq
  obtain ⟨g1, hq⟩ := hq
  exact x_iret rfl (xnZ g1) dX12_holds_99 hq
set_option maxRecDepth 100000 in
def bX12_holds (G : xG) (fr lo : Nat) (x0 : Int32) (x1 : Int32) (h : xH) (Q : Outcome → xH → Prop) : Prop := ((¬ x0 = 54 → ((¬ x0 = 59 → ((¬ x0 = 55 → ((¬ x0 = 56 → ((¬ x0 = 57 → ((x1 < 0 → bX12_holds_99 G fr lo 0 h Q) ∧ (¬ x1 < 0 → bX12_holds_99 G fr lo 1 h Q))) ∧ (x0 = 57 → ((0 < x1 → bX12_holds_99 G fr lo 0 h Q) ∧ (¬ 0 < x1 → bX12_holds_99 G fr lo 1 h Q))))) ∧ (x0 = 56 → ((x1 ≤ 0 → bX12_holds_99 G fr lo 0 h Q) ∧ (¬ x1 ≤ 0 → bX12_holds_99 G fr lo 1 h Q))))) ∧ (x0 = 55 → ((0 ≤ x1 → bX12_holds_99 G fr lo 0 h Q) ∧ (¬ 0 ≤ x1 → bX12_holds_99 G fr lo 1 h Q))))) ∧ (x0 = 59 → ((x1 = 0 → bX12_holds_99 G fr lo 0 h Q) ∧ (¬ x1 = 0 → bX12_holds_99 G fr lo 1 h Q))))) ∧ (x0 = 54 → ((¬ x1 = 0 → bX12_holds_99 G fr lo 0 h Q) ∧ (x1 = 0 → bX12_holds_99 G fr lo 1 h Q))))
set_option maxRecDepth 100000 in
theorem uX12_holds {G : xG} {fr lo : Nat} {x0 : Int32} {x1 : Int32} {h : xH} {Q : Outcome → xH → Prop} (hq : bX12_holds G fr lo x0 x1 h Q) : xP G YX12_holds fr lo 0 [(0, .int x0), (1, .int x1)] [] h Q := by
  unfold bX12_holds at hq
  refine x_iload_n 0 dX12_holds_0 rfl ?_
  refine x_bipush (v := 54) dX12_holds_1 (by decide) ?_
  refine x_icmp_ne (tgt := 18) dX12_holds_3 (by decide) (fun c1 => ?_) (fun c1 => ?_)
  · replace hq := hq.1 c1
    refine x_iload_n 0 dX12_holds_18 rfl ?_
    refine x_bipush (v := 59) dX12_holds_19 (by decide) ?_
    refine x_icmp_ne (tgt := 36) dX12_holds_21 (by decide) (fun c2 => ?_) (fun c2 => ?_)
    · replace hq := hq.1 c2
      refine x_iload_n 0 dX12_holds_36 rfl ?_
      refine x_bipush (v := 55) dX12_holds_37 (by decide) ?_
      refine x_icmp_ne (tgt := 54) dX12_holds_39 (by decide) (fun c3 => ?_) (fun c3 => ?_)
      · replace hq := hq.1 c3
        refine x_iload_n 0 dX12_holds_54 rfl ?_
        refine x_bipush (v := 56) dX12_holds_55 (by decide) ?_
        refine x_icmp_ne (tgt := 72) dX12_holds_57 (by decide) (fun c4 => ?_) (fun c4 => ?_)
        · replace hq := hq.1 c4
          refine x_iload_n 0 dX12_holds_72 rfl ?_
          refine x_bipush (v := 57) dX12_holds_73 (by decide) ?_
          refine x_icmp_ne (tgt := 90) dX12_holds_75 (by decide) (fun c5 => ?_) (fun c5 => ?_)
          · replace hq := hq.1 c5
            refine x_iload_n 1 dX12_holds_90 rfl ?_
            refine x_if_lt (tgt := 98) dX12_holds_91 (by decide) (fun c6 => ?_) (fun c6 => ?_)
            · replace hq := hq.1 c6
              refine x_iconst (v := 0) dX12_holds_98 (by decide) ?_
              refine xP.pick (lv' := []) [] rfl ?_
              exact uX12_holds_99 hq
            · replace hq := hq.2 c6
              refine x_iconst (v := 1) dX12_holds_94 (by decide) ?_
              refine x_goto (tgt := 99) dX12_holds_95 (by decide) ?_
              refine xP.pick (lv' := []) [] rfl ?_
              exact uX12_holds_99 hq
          · replace hq := hq.2 c5
            refine x_iload_n 1 dX12_holds_78 rfl ?_
            refine x_if_gt (tgt := 86) dX12_holds_79 (by decide) (fun c7 => ?_) (fun c7 => ?_)
            · replace hq := hq.1 c7
              refine x_iconst (v := 0) dX12_holds_86 (by decide) ?_
              refine x_goto (tgt := 99) dX12_holds_87 (by decide) ?_
              refine xP.pick (lv' := []) [] rfl ?_
              exact uX12_holds_99 hq
            · replace hq := hq.2 c7
              refine x_iconst (v := 1) dX12_holds_82 (by decide) ?_
              refine x_goto (tgt := 99) dX12_holds_83 (by decide) ?_
              refine xP.pick (lv' := []) [] rfl ?_
              exact uX12_holds_99 hq
        · replace hq := hq.2 c4
          refine x_iload_n 1 dX12_holds_60 rfl ?_
          refine x_if_le (tgt := 68) dX12_holds_61 (by decide) (fun c8 => ?_) (fun c8 => ?_)
          · replace hq := hq.1 c8
            refine x_iconst (v := 0) dX12_holds_68 (by decide) ?_
            refine x_goto (tgt := 99) dX12_holds_69 (by decide) ?_
            refine xP.pick (lv' := []) [] rfl ?_
            exact uX12_holds_99 hq
          · replace hq := hq.2 c8
            refine x_iconst (v := 1) dX12_holds_64 (by decide) ?_
            refine x_goto (tgt := 99) dX12_holds_65 (by decide) ?_
            refine xP.pick (lv' := []) [] rfl ?_
            exact uX12_holds_99 hq
      · replace hq := hq.2 c3
        refine x_iload_n 1 dX12_holds_42 rfl ?_
        refine x_if_ge (tgt := 50) dX12_holds_43 (by decide) (fun c9 => ?_) (fun c9 => ?_)
        · replace hq := hq.1 c9
          refine x_iconst (v := 0) dX12_holds_50 (by decide) ?_
          refine x_goto (tgt := 99) dX12_holds_51 (by decide) ?_
          refine xP.pick (lv' := []) [] rfl ?_
          exact uX12_holds_99 hq
        · replace hq := hq.2 c9
          refine x_iconst (v := 1) dX12_holds_46 (by decide) ?_
          refine x_goto (tgt := 99) dX12_holds_47 (by decide) ?_
          refine xP.pick (lv' := []) [] rfl ?_
          exact uX12_holds_99 hq
    · replace hq := hq.2 c2
      refine x_iload_n 1 dX12_holds_24 rfl ?_
      refine x_if_eq (tgt := 32) dX12_holds_25 (by decide) (fun c10 => ?_) (fun c10 => ?_)
      · replace hq := hq.1 c10
        refine x_iconst (v := 0) dX12_holds_32 (by decide) ?_
        refine x_goto (tgt := 99) dX12_holds_33 (by decide) ?_
        refine xP.pick (lv' := []) [] rfl ?_
        exact uX12_holds_99 hq
      · replace hq := hq.2 c10
        refine x_iconst (v := 1) dX12_holds_28 (by decide) ?_
        refine x_goto (tgt := 99) dX12_holds_29 (by decide) ?_
        refine xP.pick (lv' := []) [] rfl ?_
        exact uX12_holds_99 hq
  · replace hq := hq.2 c1
    refine x_iload_n 1 dX12_holds_6 rfl ?_
    refine x_if_ne (tgt := 14) dX12_holds_7 (by decide) (fun c11 => ?_) (fun c11 => ?_)
    · replace hq := hq.1 c11
      refine x_iconst (v := 0) dX12_holds_14 (by decide) ?_
      refine x_goto (tgt := 99) dX12_holds_15 (by decide) ?_
      refine xP.pick (lv' := []) [] rfl ?_
      exact uX12_holds_99 hq
    · replace hq := hq.2 c11
      refine x_iconst (v := 1) dX12_holds_10 (by decide) ?_
      refine x_goto (tgt := 99) dX12_holds_11 (by decide) ?_
      refine xP.pick (lv' := []) [] rfl ?_
      exact uX12_holds_99 hq
theorem rX12_holds {G : xG} {fr lo : Nat} {x0 : Int32} {x1 : Int32} {h : xH} {Q : Outcome → xH → Prop} (hq : bX12_holds G fr lo x0 x1 h Q) : xR G YX12_holds fr lo [.int x0, .int x1] h Q := by
  show xP _ _ _ _ _ (lv_args 0 _) _ _ _
  rw [show lv_args 0 [.int x0, .int x1] = [(0, .int x0), (1, .int x1)] from (xla1 rfl (xla1 rfl xla0))]
  exact uX12_holds hq
set_option maxRecDepth 100000 in
theorem dX12_itemOf_0 : decode cX12_itemOf 0 = .ok (.aload_n 0, 1) := by decide +kernel
set_option maxRecDepth 100000 in
theorem dX12_itemOf_1 : decode cX12_itemOf 1 = .ok (.aload_n 0, 1) := by decide +kernel
set_option maxRecDepth 100000 in
theorem dX12_itemOf_2 : decode cX12_itemOf 2 = .ok (.getfield 73, 3) := by decide +kernel
set_option maxRecDepth 100000 in
theorem dX12_itemOf_5 : decode cX12_itemOf 5 = .ok (.iload_n 1, 1) := by decide +kernel
set_option maxRecDepth 100000 in
theorem dX12_itemOf_6 : decode cX12_itemOf 6 = .ok (.iaload, 1) := by decide +kernel
set_option maxRecDepth 100000 in
theorem dX12_itemOf_7 : decode cX12_itemOf 7 = .ok (.invokevirtual 1233, 3) := by decide +kernel
set_option maxRecDepth 100000 in
theorem dX12_itemOf_10 : decode cX12_itemOf 10 = .ok (.aload_n 0, 1) := by decide +kernel
set_option maxRecDepth 100000 in
theorem dX12_itemOf_11 : decode cX12_itemOf 11 = .ok (.getfield 1121, 3) := by decide +kernel
set_option maxRecDepth 100000 in
theorem dX12_itemOf_14 : decode cX12_itemOf 14 = .ok (.ifCond .eq 5, 3) := by decide +kernel
set_option maxRecDepth 100000 in
theorem dX12_itemOf_17 : decode cX12_itemOf 17 = .ok (.iconst (-1), 1) := by decide +kernel
set_option maxRecDepth 100000 in
theorem dX12_itemOf_18 : decode cX12_itemOf 18 = .ok (.ireturn, 1) := by decide +kernel
set_option maxRecDepth 100000 in
theorem dX12_itemOf_19 : decode cX12_itemOf 19 = .ok (.aload_n 0, 1) := by decide +kernel
set_option maxRecDepth 100000 in
theorem dX12_itemOf_20 : decode cX12_itemOf 20 = .ok (.getfield 79, 3) := by decide +kernel
set_option maxRecDepth 100000 in
theorem dX12_itemOf_23 : decode cX12_itemOf 23 = .ok (.aload_n 0, 1) := by decide +kernel
set_option maxRecDepth 100000 in
theorem dX12_itemOf_24 : decode cX12_itemOf 24 = .ok (.getfield 73, 3) := by decide +kernel
set_option maxRecDepth 100000 in
theorem dX12_itemOf_27 : decode cX12_itemOf 27 = .ok (.iload_n 1, 1) := by decide +kernel
set_option maxRecDepth 100000 in
theorem dX12_itemOf_28 : decode cX12_itemOf 28 = .ok (.iaload, 1) := by decide +kernel
set_option maxRecDepth 100000 in
theorem dX12_itemOf_29 : decode cX12_itemOf 29 = .ok (.iaload, 1) := by decide +kernel
set_option maxRecDepth 100000 in
theorem dX12_itemOf_30 : decode cX12_itemOf 30 = .ok (.istore_n 2, 1) := by decide +kernel
set_option maxRecDepth 100000 in
theorem dX12_itemOf_31 : decode cX12_itemOf 31 = .ok (.iload_n 2, 1) := by decide +kernel
set_option maxRecDepth 100000 in
theorem dX12_itemOf_32 : decode cX12_itemOf 32 = .ok (.iconst (-1), 1) := by decide +kernel
set_option maxRecDepth 100000 in
theorem dX12_itemOf_33 : decode cX12_itemOf 33 = .ok (.if_icmp .eq 57, 3) := by decide +kernel
set_option maxRecDepth 100000 in
theorem dX12_itemOf_36 : decode cX12_itemOf 36 = .ok (.aload_n 0, 1) := by decide +kernel
set_option maxRecDepth 100000 in
theorem dX12_itemOf_37 : decode cX12_itemOf 37 = .ok (.getfield 73, 3) := by decide +kernel
set_option maxRecDepth 100000 in
theorem dX12_itemOf_40 : decode cX12_itemOf 40 = .ok (.aload_n 0, 1) := by decide +kernel
set_option maxRecDepth 100000 in
theorem dX12_itemOf_41 : decode cX12_itemOf 41 = .ok (.getfield 73, 3) := by decide +kernel
set_option maxRecDepth 100000 in
theorem dX12_itemOf_44 : decode cX12_itemOf 44 = .ok (.iload_n 2, 1) := by decide +kernel
set_option maxRecDepth 100000 in
theorem dX12_itemOf_45 : decode cX12_itemOf 45 = .ok (.iaload, 1) := by decide +kernel
set_option maxRecDepth 100000 in
theorem dX12_itemOf_46 : decode cX12_itemOf 46 = .ok (.iaload, 1) := by decide +kernel
set_option maxRecDepth 100000 in
theorem dX12_itemOf_47 : decode cX12_itemOf 47 = .ok (.istore_n 3, 1) := by decide +kernel
set_option maxRecDepth 100000 in
theorem dX12_itemOf_48 : decode cX12_itemOf 48 = .ok (.iload_n 3, 1) := by decide +kernel
set_option maxRecDepth 100000 in
theorem dX12_itemOf_49 : decode cX12_itemOf 49 = .ok (.iconst (-1), 1) := by decide +kernel
set_option maxRecDepth 100000 in
theorem dX12_itemOf_50 : decode cX12_itemOf 50 = .ok (.if_icmp .eq 30, 3) := by decide +kernel
set_option maxRecDepth 100000 in
theorem dX12_itemOf_53 : decode cX12_itemOf 53 = .ok (.aload_n 0, 1) := by decide +kernel
set_option maxRecDepth 100000 in
theorem dX12_itemOf_54 : decode cX12_itemOf 54 = .ok (.getfield 88, 3) := by decide +kernel
set_option maxRecDepth 100000 in
theorem dX12_itemOf_57 : decode cX12_itemOf 57 = .ok (.iload_n 3, 1) := by decide +kernel
set_option maxRecDepth 100000 in
theorem dX12_itemOf_58 : decode cX12_itemOf 58 = .ok (.iaload, 1) := by decide +kernel
set_option maxRecDepth 100000 in
theorem dX12_itemOf_59 : decode cX12_itemOf 59 = .ok (.i2l, 1) := by decide +kernel
set_option maxRecDepth 100000 in
theorem dX12_itemOf_60 : decode cX12_itemOf 60 = .ok (.aload_n 0, 1) := by decide +kernel
set_option maxRecDepth 100000 in
theorem dX12_itemOf_61 : decode cX12_itemOf 61 = .ok (.getfield 1145, 3) := by decide +kernel
set_option maxRecDepth 100000 in
theorem dX12_itemOf_64 : decode cX12_itemOf 64 = .ok (.lcmp, 1) := by decide +kernel
set_option maxRecDepth 100000 in
theorem dX12_itemOf_65 : decode cX12_itemOf 65 = .ok (.ifCond .ne 5, 3) := by decide +kernel
set_option maxRecDepth 100000 in
theorem dX12_itemOf_68 : decode cX12_itemOf 68 = .ok (.iload_n 2, 1) := by decide +kernel
set_option maxRecDepth 100000 in
theorem dX12_itemOf_69 : decode cX12_itemOf 69 = .ok (.ireturn, 1) := by decide +kernel
set_option maxRecDepth 100000 in
theorem dX12_itemOf_70 : decode cX12_itemOf 70 = .ok (.aload_n 0, 1) := by decide +kernel
set_option maxRecDepth 100000 in
theorem dX12_itemOf_71 : decode cX12_itemOf 71 = .ok (.getfield 79, 3) := by decide +kernel
set_option maxRecDepth 100000 in
theorem dX12_itemOf_74 : decode cX12_itemOf 74 = .ok (.iload_n 3, 1) := by decide +kernel
set_option maxRecDepth 100000 in
theorem dX12_itemOf_75 : decode cX12_itemOf 75 = .ok (.iaload, 1) := by decide +kernel
set_option maxRecDepth 100000 in
theorem dX12_itemOf_76 : decode cX12_itemOf 76 = .ok (.istore_n 3, 1) := by decide +kernel
set_option maxRecDepth 100000 in
theorem dX12_itemOf_77 : decode cX12_itemOf 77 = .ok (.goto (-29), 3) := by decide +kernel
set_option maxRecDepth 100000 in
theorem dX12_itemOf_80 : decode cX12_itemOf 80 = .ok (.aload_n 0, 1) := by decide +kernel
set_option maxRecDepth 100000 in
theorem dX12_itemOf_81 : decode cX12_itemOf 81 = .ok (.getfield 79, 3) := by decide +kernel
set_option maxRecDepth 100000 in
theorem dX12_itemOf_84 : decode cX12_itemOf 84 = .ok (.iload_n 2, 1) := by decide +kernel
set_option maxRecDepth 100000 in
theorem dX12_itemOf_85 : decode cX12_itemOf 85 = .ok (.iaload, 1) := by decide +kernel
set_option maxRecDepth 100000 in
theorem dX12_itemOf_86 : decode cX12_itemOf 86 = .ok (.istore_n 2, 1) := by decide +kernel
set_option maxRecDepth 100000 in
theorem dX12_itemOf_87 : decode cX12_itemOf 87 = .ok (.goto (-56), 3) := by decide +kernel
set_option maxRecDepth 100000 in
theorem dX12_itemOf_90 : decode cX12_itemOf 90 = .ok (.aload_n 0, 1) := by decide +kernel
set_option maxRecDepth 100000 in
theorem dX12_itemOf_91 : decode cX12_itemOf 91 = .ok (.bipush 7, 2) := by decide +kernel
set_option maxRecDepth 100000 in
theorem dX12_itemOf_93 : decode cX12_itemOf 93 = .ok (.aload_n 0, 1) := by decide +kernel
set_option maxRecDepth 100000 in
theorem dX12_itemOf_94 : decode cX12_itemOf 94 = .ok (.getfield 70, 3) := by decide +kernel
set_option maxRecDepth 100000 in
theorem dX12_itemOf_97 : decode cX12_itemOf 97 = .ok (.iload_n 1, 1) := by decide +kernel
set_option maxRecDepth 100000 in
theorem dX12_itemOf_98 : decode cX12_itemOf 98 = .ok (.iaload, 1) := by decide +kernel
set_option maxRecDepth 100000 in
theorem dX12_itemOf_99 : decode cX12_itemOf 99 = .ok (.invokevirtual 1142, 3) := by decide +kernel
set_option maxRecDepth 100000 in
theorem dX12_itemOf_102 : decode cX12_itemOf 102 = .ok (.iconst (-1), 1) := by decide +kernel
set_option maxRecDepth 100000 in
theorem dX12_itemOf_103 : decode cX12_itemOf 103 = .ok (.ireturn, 1) := by decide +kernel
def lX12_itemOf_31 (G : xG) (fr lo : Nat) (x0 : Nat) (x1 : Int32) (x2 : Int32) (h : xH) (Q : Outcome → xH → Prop) : Prop := xP G YX12_itemOf fr lo 31 [(0, rv x0), (1, .int x1), (2, .int x2)] [] h Q
def lX12_itemOf_48 (G : xG) (fr lo : Nat) (x0 : Nat) (x1 : Int32) (x2 : Int32) (x3 : Int32) (h : xH) (Q : Outcome → xH → Prop) : Prop := xP G YX12_itemOf fr lo 48 [(0, rv x0), (1, .int x1), (2, .int x2), (3, .int x3)] [] h Q
set_option maxRecDepth 100000 in
def bX12_itemOf_48 (G : xG) (fr lo : Nat) (x0 : Nat) (x1 : Int32) (x2 : Int32) (x3 : Int32) (h : xH) (Q : Outcome → xH → Prop) : Prop := ((x3 = (-1) → tg h x0 = 13 ∧ tg h (fR h x0 3105) = 100 ∧ vp_in x2 (ln h (fR h x0 3105)) ∧ lX12_itemOf_31 G fr lo x0 x1 (aI h (fR h x0 3105) (Int32.toNatClampNeg x2)) h Q) ∧ (¬ x3 = (-1) → tg h x0 = 13 ∧ tg h (fR h x0 3108) = 100 ∧ vp_in x3 (ln h (fR h x0 3108)) ∧ ((¬ (lg_cmp (Int32.toInt64 (aI h (fR h x0 3108) (Int32.toNatClampNeg x3))) (fJ h x0 3177)) = 0 → tg h (fR h x0 3105) = 100 ∧ vp_in x3 (ln h (fR h x0 3105)) ∧ lX12_itemOf_48 G fr lo x0 x1 x2 (aI h (fR h x0 3105) (Int32.toNatClampNeg x3)) h Q) ∧ ((lg_cmp (Int32.toInt64 (aI h (fR h x0 3108) (Int32.toNatClampNeg x3))) (fJ h x0 3177)) = 0 → Q (.returned (some (.int x2))) h))))
set_option maxRecDepth 100000 in
theorem uX12_itemOf_48 {G : xG} {fr lo : Nat} {x0 : Nat} {x1 : Int32} {x2 : Int32} {x3 : Int32} {h : xH} {Q : Outcome → xH → Prop} (hq : bX12_itemOf_48 G fr lo x0 x1 x2 x3 h Q) : xP G YX12_itemOf fr lo 48 [(0, rv x0), (1, .int x1), (2, .int x2), (3, .int x3)] [] h Q := by
  unfold bX12_itemOf_48 at hq
  refine x_iload_n 3 dX12_itemOf_48 rfl ?_
  refine x_iconst (v := (-1)) dX12_itemOf_49 (by decide) ?_
  refine x_icmp_eq (tgt := 80) dX12_itemOf_50 (by decide) (fun c1 => ?_) (fun c1 => ?_)
  · replace hq := hq.1 c1
    refine x_aload_n 0 dX12_itemOf_80 rfl ?_
    obtain ⟨g2, hq⟩ := hq
    refine x_get (v := rv (fR h x0 3105)) fdX12_79 dX12_itemOf_81 g2 rfl ?_
    refine x_iload_n 2 dX12_itemOf_84 rfl ?_
    obtain ⟨g3, hq⟩ := hq
    obtain ⟨i4, hq⟩ := hq
    refine x_iald 0 (Or.inl rfl) g3 i4 dX12_itemOf_85 ?_
    refine x_istore_n (lv' := [(2, .int (aI h (fR h x0 3105) (Int32.toNatClampNeg x2))), (0, rv x0), (1, .int x1), (3, .int x3)]) dX12_itemOf_86 (by decide) rfl ?_
    refine x_goto (tgt := 31) dX12_itemOf_87 (by decide) ?_
    refine xP.pick (lv' := [(0, rv x0), (1, .int x1), (2, .int (aI h (fR h x0 3105) (Int32.toNatClampNeg x2)))]) [1, 2, 0] rfl ?_
    exact hq
  · replace hq := hq.2 c1
    refine x_aload_n 0 dX12_itemOf_53 rfl ?_
    obtain ⟨g5, hq⟩ := hq
    refine x_get (v := rv (fR h x0 3108)) fdX12_88 dX12_itemOf_54 g5 rfl ?_
    refine x_iload_n 3 dX12_itemOf_57 rfl ?_
    obtain ⟨g6, hq⟩ := hq
    obtain ⟨i7, hq⟩ := hq
    refine x_iald 0 (Or.inl rfl) g6 i7 dX12_itemOf_58 ?_
    refine x_i2l dX12_itemOf_59 ?_
    refine x_aload_n 0 dX12_itemOf_60 rfl ?_
    refine x_get (v := .long (fJ h x0 3177)) fdX12_1145 dX12_itemOf_61 g5 rfl ?_
    refine x_lcmp dX12_itemOf_64 ?_
    refine x_if_ne (tgt := 70) dX12_itemOf_65 (by decide) (fun c8 => ?_) (fun c8 => ?_)
    · replace hq := hq.1 c8
      refine x_aload_n 0 dX12_itemOf_70 rfl ?_
      refine x_get (v := rv (fR h x0 3105)) fdX12_79 dX12_itemOf_71 g5 rfl ?_
      refine x_iload_n 3 dX12_itemOf_74 rfl ?_
      obtain ⟨g9, hq⟩ := hq
      obtain ⟨i10, hq⟩ := hq
      refine x_iald 0 (Or.inl rfl) g9 i10 dX12_itemOf_75 ?_
      refine x_istore_n (lv' := [(3, .int (aI h (fR h x0 3105) (Int32.toNatClampNeg x3))), (0, rv x0), (1, .int x1), (2, .int x2)]) dX12_itemOf_76 (by decide) rfl ?_
      refine x_goto (tgt := 48) dX12_itemOf_77 (by decide) ?_
      refine xP.pick (lv' := [(0, rv x0), (1, .int x1), (2, .int x2), (3, .int (aI h (fR h x0 3105) (Int32.toNatClampNeg x3)))]) [1, 2, 3, 0] rfl ?_
      exact hq
    · replace hq := hq.2 c8
      refine x_iload_n 2 dX12_itemOf_68 rfl ?_
      exact x_iret rfl rfl dX12_itemOf_69 hq
set_option maxRecDepth 100000 in
def bX12_itemOf_31 (G : xG) (fr lo : Nat) (x0 : Nat) (x1 : Int32) (x2 : Int32) (h : xH) (Q : Outcome → xH → Prop) : Prop := ((x2 = (-1) → tg h x0 = 13 ∧ tg h (fR h x0 3102) = 100 ∧ vp_in x1 (ln h (fR h x0 3102)) ∧ 1 ≤ fr ∧ 14 ≤ lo ∧ xRv G YX12_error (fr - 1) (lo - 14) [rv x0, .int 7, .int (aI h (fR h x0 3102) (Int32.toNatClampNeg x1))] h (fun h7 => xext h h7 → Q (.returned (some (.int (-1)))) h7) (fun r h2 => Q (.threw r) h2)) ∧ (¬ x2 = (-1) → tg h x0 = 13 ∧ tg h (fR h x0 3103) = 100 ∧ vp_in x2 (ln h (fR h x0 3103)) ∧ vp_in (aI h (fR h x0 3103) (Int32.toNatClampNeg x2)) (ln h (fR h x0 3103)) ∧ lX12_itemOf_48 G fr lo x0 x1 x2 (aI h (fR h x0 3103) (Int32.toNatClampNeg (aI h (fR h x0 3103) (Int32.toNatClampNeg x2)))) h Q))
set_option maxRecDepth 100000 in
theorem uX12_itemOf_31 {G : xG} {fr lo : Nat} {x0 : Nat} {x1 : Int32} {x2 : Int32} {h : xH} {Q : Outcome → xH → Prop} (hq : bX12_itemOf_31 G fr lo x0 x1 x2 h Q) : xP G YX12_itemOf fr lo 31 [(0, rv x0), (1, .int x1), (2, .int x2)] [] h Q := by
  unfold bX12_itemOf_31 at hq
  refine x_iload_n 2 dX12_itemOf_31 rfl ?_
  refine x_iconst (v := (-1)) dX12_itemOf_32 (by decide) ?_
  refine x_icmp_eq (tgt := 90) dX12_itemOf_33 (by decide) (fun c1 => ?_) (fun c1 => ?_)
  · replace hq := hq.1 c1
    refine x_aload_n 0 dX12_itemOf_90 rfl ?_
    refine x_bipush (v := 7) dX12_itemOf_91 (by decide) ?_
    refine x_aload_n 0 dX12_itemOf_93 rfl ?_
    obtain ⟨g2, hq⟩ := hq
    refine x_get (v := rv (fR h x0 3102)) fdX12_70 dX12_itemOf_94 g2 rfl ?_
    refine x_iload_n 1 dX12_itemOf_97 rfl ?_
    obtain ⟨g3, hq⟩ := hq
    obtain ⟨i4, hq⟩ := hq
    refine x_iald 0 (Or.inl rfl) g3 i4 dX12_itemOf_98 ?_
    obtain ⟨g5, g6, hq⟩ := hq
    refine x_callV (Yc := YX12_error) (as := [.int 7, .int (aI h (fR h x0 3102) (Int32.toNatClampNeg x1))]) (st := []) q4490 mvX12_error g2 rfl dX12_itemOf_99 (xle (xal1 (rv_cat _) (xal1 rfl (xal1 rfl xal0))) (by decide)) (xfr g5) (xlo xsw0 (by decide) g6) (xKv hq (fun h7 hq e9 => ?_) (fun _ _ q _ => q))
    replace hq := hq e9
    refine x_iconst (v := (-1)) dX12_itemOf_102 (by decide) ?_
    exact x_iret rfl rfl dX12_itemOf_103 hq
  · replace hq := hq.2 c1
    refine x_aload_n 0 dX12_itemOf_36 rfl ?_
    obtain ⟨g10, hq⟩ := hq
    refine x_get (v := rv (fR h x0 3103)) fdX12_73 dX12_itemOf_37 g10 rfl ?_
    refine x_aload_n 0 dX12_itemOf_40 rfl ?_
    refine x_get (v := rv (fR h x0 3103)) fdX12_73 dX12_itemOf_41 g10 rfl ?_
    refine x_iload_n 2 dX12_itemOf_44 rfl ?_
    obtain ⟨g11, hq⟩ := hq
    obtain ⟨i12, hq⟩ := hq
    refine x_iald 0 (Or.inl rfl) g11 i12 dX12_itemOf_45 ?_
    obtain ⟨i13, hq⟩ := hq
    refine x_iald 0 (Or.inl rfl) g11 i13 dX12_itemOf_46 ?_
    refine x_istore_n (lv' := [(3, .int (aI h (fR h x0 3103) (Int32.toNatClampNeg (aI h (fR h x0 3103) (Int32.toNatClampNeg x2))))), (0, rv x0), (1, .int x1), (2, .int x2)]) dX12_itemOf_47 (by decide) rfl ?_
    refine xP.pick (lv' := [(0, rv x0), (1, .int x1), (2, .int x2), (3, .int (aI h (fR h x0 3103) (Int32.toNatClampNeg (aI h (fR h x0 3103) (Int32.toNatClampNeg x2)))))]) [1, 2, 3, 0] rfl ?_
    exact hq
set_option maxRecDepth 100000 in
def bX12_itemOf (G : xG) (fr lo : Nat) (x0 : Nat) (x1 : Int32) (h : xH) (Q : Outcome → xH → Prop) : Prop := tg h x0 = 13 ∧ tg h (fR h x0 3103) = 100 ∧ vp_in x1 (ln h (fR h x0 3103)) ∧ 1 ≤ fr ∧ 37 ≤ lo ∧ xRv G YX12_evaluate (fr - 1) (lo - 37) [rv x0, .int (aI h (fR h x0 3103) (Int32.toNatClampNeg x1))] h (fun h6 => xext h h6 → (((fI h6 x0 3170) = 0 → tg h6 (fR h6 x0 3103) = 100 ∧ vp_in x1 (ln h6 (fR h6 x0 3103)) ∧ tg h6 (fR h6 x0 3105) = 100 ∧ vp_in (aI h6 (fR h6 x0 3103) (Int32.toNatClampNeg x1)) (ln h6 (fR h6 x0 3105)) ∧ lX12_itemOf_31 G fr lo x0 x1 (aI h6 (fR h6 x0 3105) (Int32.toNatClampNeg (aI h6 (fR h6 x0 3103) (Int32.toNatClampNeg x1)))) h6 Q) ∧ (¬ (fI h6 x0 3170) = 0 → Q (.returned (some (.int (-1)))) h6))) (fun r h2 => Q (.threw r) h2)
set_option maxRecDepth 100000 in
theorem uX12_itemOf {G : xG} {fr lo : Nat} {x0 : Nat} {x1 : Int32} {h : xH} {Q : Outcome → xH → Prop} (hq : bX12_itemOf G fr lo x0 x1 h Q) : xP G YX12_itemOf fr lo 0 [(0, rv x0), (1, .int x1)] [] h Q := by
  unfold bX12_itemOf at hq
  refine x_aload_n 0 dX12_itemOf_0 rfl ?_
  refine x_aload_n 0 dX12_itemOf_1 rfl ?_
  obtain ⟨g1, hq⟩ := hq
  refine x_get (v := rv (fR h x0 3103)) fdX12_73 dX12_itemOf_2 g1 rfl ?_
  refine x_iload_n 1 dX12_itemOf_5 rfl ?_
  obtain ⟨g2, hq⟩ := hq
  obtain ⟨i3, hq⟩ := hq
  refine x_iald 0 (Or.inl rfl) g2 i3 dX12_itemOf_6 ?_
  obtain ⟨g4, g5, hq⟩ := hq
  refine x_callV (Yc := YX12_evaluate) (as := [.int (aI h (fR h x0 3103) (Int32.toNatClampNeg x1))]) (st := []) q4543 mvX12_evaluate g1 rfl dX12_itemOf_7 (xle (xal1 (rv_cat _) (xal1 rfl xal0)) (by decide)) (xfr g4) (xlo xsw0 (by decide) g5) (xKv hq (fun h6 hq e8 => ?_) (fun _ _ q _ => q))
  replace hq := hq e8
  refine x_aload_n 0 dX12_itemOf_10 rfl ?_
  have t9 : tg h6 x0 = 13 := e8.tg g1 (by decide)
  refine x_get (v := .int (fI h6 x0 3170)) fdX12_1121 dX12_itemOf_11 t9 rfl ?_
  refine x_if_eq (tgt := 19) dX12_itemOf_14 (by decide) (fun c10 => ?_) (fun c10 => ?_)
  · replace hq := hq.1 c10
    refine x_aload_n 0 dX12_itemOf_19 rfl ?_
    refine x_get (v := rv (fR h6 x0 3105)) fdX12_79 dX12_itemOf_20 t9 rfl ?_
    refine x_aload_n 0 dX12_itemOf_23 rfl ?_
    refine x_get (v := rv (fR h6 x0 3103)) fdX12_73 dX12_itemOf_24 t9 rfl ?_
    refine x_iload_n 1 dX12_itemOf_27 rfl ?_
    obtain ⟨g11, hq⟩ := hq
    obtain ⟨i12, hq⟩ := hq
    refine x_iald 0 (Or.inl rfl) g11 i12 dX12_itemOf_28 ?_
    obtain ⟨g13, hq⟩ := hq
    obtain ⟨i14, hq⟩ := hq
    refine x_iald 0 (Or.inl rfl) g13 i14 dX12_itemOf_29 ?_
    refine x_istore_n (lv' := [(2, .int (aI h6 (fR h6 x0 3105) (Int32.toNatClampNeg (aI h6 (fR h6 x0 3103) (Int32.toNatClampNeg x1))))), (0, rv x0), (1, .int x1)]) dX12_itemOf_30 (by decide) rfl ?_
    refine xP.pick (lv' := [(0, rv x0), (1, .int x1), (2, .int (aI h6 (fR h6 x0 3105) (Int32.toNatClampNeg (aI h6 (fR h6 x0 3103) (Int32.toNatClampNeg x1)))))]) [1, 2, 0] rfl ?_
    exact hq
  · replace hq := hq.2 c10
    refine x_iconst (v := (-1)) dX12_itemOf_17 (by decide) ?_
    exact x_iret rfl rfl dX12_itemOf_18 hq
theorem rX12_itemOf {G : xG} {fr lo : Nat} {x0 : Nat} {x1 : Int32} {h : xH} {Q : Outcome → xH → Prop} (hq : bX12_itemOf G fr lo x0 x1 h Q) : xR G YX12_itemOf fr lo [rv x0, .int x1] h Q := by
  show xP _ _ _ _ _ (lv_args 0 _) _ _ _
  rw [show lv_args 0 [rv x0, .int x1] = [(0, rv x0), (1, .int x1)] from (xla1 (rv_cat _) (xla1 rfl xla0))]
  exact uX12_itemOf hq
set_option maxRecDepth 100000 in
theorem dX12_bounds_0 : decode cX12_bounds 0 = .ok (.aload_n 0, 1) := by decide +kernel
set_option maxRecDepth 100000 in
theorem dX12_bounds_1 : decode cX12_bounds 1 = .ok (.getfield 102, 3) := by decide +kernel
set_option maxRecDepth 100000 in
theorem dX12_bounds_4 : decode cX12_bounds 4 = .ok (.iload_n 1, 1) := by decide +kernel
set_option maxRecDepth 100000 in
theorem dX12_bounds_5 : decode cX12_bounds 5 = .ok (.aaload, 1) := by decide +kernel
set_option maxRecDepth 100000 in
theorem dX12_bounds_6 : decode cX12_bounds 6 = .ok (.getfield 612, 3) := by decide +kernel
set_option maxRecDepth 100000 in
theorem dX12_bounds_9 : decode cX12_bounds 9 = .ok (.astore 6, 2) := by decide +kernel
set_option maxRecDepth 100000 in
theorem dX12_bounds_11 : decode cX12_bounds 11 = .ok (.aload_n 0, 1) := by decide +kernel
set_option maxRecDepth 100000 in
theorem dX12_bounds_12 : decode cX12_bounds 12 = .ok (.getfield 70, 3) := by decide +kernel
set_option maxRecDepth 100000 in
theorem dX12_bounds_15 : decode cX12_bounds 15 = .ok (.aload_n 0, 1) := by decide +kernel
set_option maxRecDepth 100000 in
theorem dX12_bounds_16 : decode cX12_bounds 16 = .ok (.getfield 73, 3) := by decide +kernel
set_option maxRecDepth 100000 in
theorem dX12_bounds_19 : decode cX12_bounds 19 = .ok (.iload_n 1, 1) := by decide +kernel
set_option maxRecDepth 100000 in
theorem dX12_bounds_20 : decode cX12_bounds 20 = .ok (.iaload, 1) := by decide +kernel
set_option maxRecDepth 100000 in
theorem dX12_bounds_21 : decode cX12_bounds 21 = .ok (.iaload, 1) := by decide +kernel
set_option maxRecDepth 100000 in
theorem dX12_bounds_22 : decode cX12_bounds 22 = .ok (.istore 7, 2) := by decide +kernel
set_option maxRecDepth 100000 in
theorem dX12_bounds_24 : decode cX12_bounds 24 = .ok (.aload_n 0, 1) := by decide +kernel
set_option maxRecDepth 100000 in
theorem dX12_bounds_25 : decode cX12_bounds 25 = .ok (.lload_n 2, 1) := by decide +kernel
set_option maxRecDepth 100000 in
theorem dX12_bounds_26 : decode cX12_bounds 26 = .ok (.putfield 1145, 3) := by decide +kernel
set_option maxRecDepth 100000 in
theorem dX12_bounds_29 : decode cX12_bounds 29 = .ok (.aload_n 0, 1) := by decide +kernel
set_option maxRecDepth 100000 in
theorem dX12_bounds_30 : decode cX12_bounds 30 = .ok (.aload 6, 2) := by decide +kernel
set_option maxRecDepth 100000 in
theorem dX12_bounds_32 : decode cX12_bounds 32 = .ok (.invokevirtual 867, 3) := by decide +kernel
set_option maxRecDepth 100000 in
theorem dX12_bounds_35 : decode cX12_bounds 35 = .ok (.aload 6, 2) := by decide +kernel
set_option maxRecDepth 100000 in
theorem dX12_bounds_37 : decode cX12_bounds 37 = .ok (.iload 7, 2) := by decide +kernel
set_option maxRecDepth 100000 in
theorem dX12_bounds_39 : decode cX12_bounds 39 = .ok (.invokevirtual 1168, 3) := by decide +kernel
set_option maxRecDepth 100000 in
theorem dX12_bounds_42 : decode cX12_bounds 42 = .ok (.aload_n 0, 1) := by decide +kernel
set_option maxRecDepth 100000 in
theorem dX12_bounds_43 : decode cX12_bounds 43 = .ok (.lload 4, 2) := by decide +kernel
set_option maxRecDepth 100000 in
theorem dX12_bounds_45 : decode cX12_bounds 45 = .ok (.putfield 1145, 3) := by decide +kernel
set_option maxRecDepth 100000 in
theorem dX12_bounds_48 : decode cX12_bounds 48 = .ok (.aload_n 0, 1) := by decide +kernel
set_option maxRecDepth 100000 in
theorem dX12_bounds_49 : decode cX12_bounds 49 = .ok (.getfield 1121, 3) := by decide +kernel
set_option maxRecDepth 100000 in
theorem dX12_bounds_52 : decode cX12_bounds 52 = .ok (.ifCond .ne 16, 3) := by decide +kernel
set_option maxRecDepth 100000 in
theorem dX12_bounds_55 : decode cX12_bounds 55 = .ok (.aload_n 0, 1) := by decide +kernel
set_option maxRecDepth 100000 in
theorem dX12_bounds_56 : decode cX12_bounds 56 = .ok (.aload 6, 2) := by decide +kernel
set_option maxRecDepth 100000 in
theorem dX12_bounds_58 : decode cX12_bounds 58 = .ok (.invokevirtual 867, 3) := by decide +kernel
set_option maxRecDepth 100000 in
theorem dX12_bounds_61 : decode cX12_bounds 61 = .ok (.aload 6, 2) := by decide +kernel
set_option maxRecDepth 100000 in
theorem dX12_bounds_63 : decode cX12_bounds 63 = .ok (.iload 7, 2) := by decide +kernel
set_option maxRecDepth 100000 in
theorem dX12_bounds_65 : decode cX12_bounds 65 = .ok (.invokevirtual 1168, 3) := by decide +kernel
set_option maxRecDepth 100000 in
theorem dX12_bounds_68 : decode cX12_bounds 68 = .ok (.return_, 1) := by decide +kernel
set_option maxRecDepth 100000 in
def bX12_bounds_68 (G : xG) (fr lo : Nat) (h : xH) (Q : Outcome → xH → Prop) : Prop := Q (.returned none) h
set_option maxRecDepth 100000 in
theorem uX12_bounds_68 {G : xG} {fr lo : Nat} {h : xH} {Q : Outcome → xH → Prop} (hq : bX12_bounds_68 G fr lo h Q) : xP G YX12_bounds fr lo 68 [] [] h Q := by
  unfold bX12_bounds_68 at hq
  exact x_vret rfl dX12_bounds_68 hq
set_option maxRecDepth 100000 in
def bX12_bounds (G : xG) (fr lo : Nat) (x0 : Nat) (x1 : Int32) (x2 : Int64) (x4 : Int64) (h : xH) (Q : Outcome → xH → Prop) : Prop := tg h x0 = 13 ∧ tg h (fR h x0 3114) = 109 ∧ vp_in x1 (ln h (fR h x0 3114)) ∧ tg h (aR h (fR h x0 3114) (Int32.toNatClampNeg x1)) = 24 ∧ tg h (fR h x0 3103) = 100 ∧ vp_in x1 (ln h (fR h x0 3103)) ∧ tg h (fR h x0 3102) = 100 ∧ vp_in (aI h (fR h x0 3103) (Int32.toNatClampNeg x1)) (ln h (fR h x0 3102)) ∧ (∀ h9 : xH, h9 = sJ h x0 3177 x2 → tg h9 (fR h (aR h (fR h x0 3114) (Int32.toNatClampNeg x1)) 5890) = 14 ∧ 1 ≤ fr ∧ 13 ≤ lo ∧ xRr G YX13_own (fr - 1) (lo - 13) [rv (fR h (aR h (fR h x0 3114) (Int32.toNatClampNeg x1)) 5890)] h9 (fun x15 h14 => xext h9 h14 → 1 ≤ fr ∧ 15 ≤ lo ∧ xRv G YX12_suit (fr - 1) (lo - 15) [rv x0, rv x15, rv (fR h (aR h (fR h x0 3114) (Int32.toNatClampNeg x1)) 5890), .int (aI h (fR h x0 3102) (Int32.toNatClampNeg (aI h (fR h x0 3103) (Int32.toNatClampNeg x1))))] h14 (fun h21 => xext h14 h21 → (∀ h25 : xH, h25 = sJ h21 x0 3177 x4 → ((¬ (fI h25 x0 3170) = 0 → bX12_bounds_68 G fr lo h25 Q) ∧ ((fI h25 x0 3170) = 0 → 1 ≤ fr ∧ 13 ≤ lo ∧ xRr G YX13_own (fr - 1) (lo - 13) [rv (fR h (aR h (fR h x0 3114) (Int32.toNatClampNeg x1)) 5890)] h25 (fun x35 h34 => xext h25 h34 → 1 ≤ fr ∧ 15 ≤ lo ∧ xRv G YX12_suit (fr - 1) (lo - 15) [rv x0, rv x35, rv (fR h (aR h (fR h x0 3114) (Int32.toNatClampNeg x1)) 5890), .int (aI h (fR h x0 3102) (Int32.toNatClampNeg (aI h (fR h x0 3103) (Int32.toNatClampNeg x1))))] h34 (fun h40 => xext h34 h40 → bX12_bounds_68 G fr lo h40 Q) (fun r h2 => Q (.threw r) h2)) (fun r h2 => Q (.threw r) h2))))) (fun r h2 => Q (.threw r) h2)) (fun r h2 => Q (.threw r) h2))
set_option maxRecDepth 100000 in
theorem uX12_bounds {G : xG} {fr lo : Nat} {x0 : Nat} {x1 : Int32} {x2 : Int64} {x4 : Int64} {h : xH} {Q : Outcome → xH → Prop} (hq : bX12_bounds G fr lo x0 x1 x2 x4 h Q) : xP G YX12_bounds fr lo 0 [(0, rv x0), (1, .int x1), (2, .long x2), (4, .long x4)] [] h Q := by
  unfold bX12_bounds at hq
  refine x_aload_n 0 dX12_bounds_0 rfl ?_
  obtain ⟨g1, hq⟩ := hq
  refine x_get (v := rv (fR h x0 3114)) fdX12_102 dX12_bounds_1 g1 rfl ?_
  refine x_iload_n 1 dX12_bounds_4 rfl ?_
  obtain ⟨g2, hq⟩ := hq
  obtain ⟨i3, hq⟩ := hq
  refine x_aald 9 rfl g2 (by decide) i3 dX12_bounds_5 ?_
  obtain ⟨g4, hq⟩ := hq
  refine x_get (v := rv (fR h (aR h (fR h x0 3114) (Int32.toNatClampNeg x1)) 5890)) fdX12_612 dX12_bounds_6 g4 rfl ?_
  refine x_astore (lv' := [(6, rv (fR h (aR h (fR h x0 3114) (Int32.toNatClampNeg x1)) 5890)), (0, rv x0), (1, .int x1), (2, .long x2), (4, .long x4)]) dX12_bounds_9 (by decide) rfl ?_
  refine x_aload_n 1 dX12_bounds_11 rfl ?_
  refine x_get (v := rv (fR h x0 3102)) fdX12_70 dX12_bounds_12 g1 rfl ?_
  refine x_aload_n 1 dX12_bounds_15 rfl ?_
  refine x_get (v := rv (fR h x0 3103)) fdX12_73 dX12_bounds_16 g1 rfl ?_
  refine x_iload_n 2 dX12_bounds_19 rfl ?_
  obtain ⟨g5, hq⟩ := hq
  obtain ⟨i6, hq⟩ := hq
  refine x_iald 0 (Or.inl rfl) g5 i6 dX12_bounds_20 ?_
  obtain ⟨g7, hq⟩ := hq
  obtain ⟨i8, hq⟩ := hq
  refine x_iald 0 (Or.inl rfl) g7 i8 dX12_bounds_21 ?_
  refine x_istore (lv' := [(7, .int (aI h (fR h x0 3102) (Int32.toNatClampNeg (aI h (fR h x0 3103) (Int32.toNatClampNeg x1))))), (6, rv (fR h (aR h (fR h x0 3114) (Int32.toNatClampNeg x1)) 5890)), (0, rv x0), (1, .int x1), (2, .long x2), (4, .long x4)]) dX12_bounds_22 (by decide) (by first | rfl | (simp [rv_cat, Value.category]; done) | (simp [rv_cat, Value.category]; decide)) ?_
  refine x_aload_n 2 dX12_bounds_24 rfl ?_
  refine x_lload_n 4 dX12_bounds_25 rfl ?_
  obtain ⟨h9, e10⟩ : ∃ y, y = sJ h x0 3177 x2 := ⟨_, rfl⟩
  replace hq := hq h9 e10
  refine x_putJ fdX12_1145 dX12_bounds_26 g1 (Or.inl (by rw [g1]; rfl)) rfl e10 ?_
  refine x_aload_n 2 dX12_bounds_29 rfl ?_
  refine x_aload 1 dX12_bounds_30 rfl ?_
  obtain ⟨g11, hq⟩ := hq
  obtain ⟨g12, g13, hq⟩ := hq
  refine x_callV (Yc := YX13_own) (as := []) (st := [rv x0]) q4189 mvX13_own g11 rfl dX12_bounds_32 (xle (xal1 (rv_cat _) xal0) (by decide)) (xfr g12) (xlo (xsw1 (rv_cat _) xsw0) (by decide) g13) (xKr hq (fun x15 h14 hq e16 => ?_) (fun _ _ q _ => q))
  replace hq := hq e16
  refine x_aload 1 dX12_bounds_35 rfl ?_
  refine x_iload 0 dX12_bounds_37 rfl ?_
  have t17 : tg h9 x0 = 13 := by rw [e10]; exact g1
  have t18 : tg h14 x0 = 13 := e16.tg t17 (by decide)
  obtain ⟨g19, g20, hq⟩ := hq
  refine x_callV (Yc := YX12_suit) (as := [rv x15, rv (fR h (aR h (fR h x0 3114) (Int32.toNatClampNeg x1)) 5890), .int (aI h (fR h x0 3102) (Int32.toNatClampNeg (aI h (fR h x0 3103) (Int32.toNatClampNeg x1))))]) (st := []) q4631 mvX12_suit t18 rfl dX12_bounds_39 (xle (xal1 (rv_cat _) (xal1 (rv_cat _) (xal1 (rv_cat _) (xal1 rfl xal0)))) (by decide)) (xfr g19) (xlo xsw0 (by decide) g20) (xKv hq (fun h21 hq e23 => ?_) (fun _ _ q _ => q))
  replace hq := hq e23
  refine x_aload_n 2 dX12_bounds_42 rfl ?_
  refine x_lload 5 dX12_bounds_43 rfl ?_
  have t24 : tg h21 x0 = 13 := e23.tg t18 (by decide)
  obtain ⟨h25, e26⟩ : ∃ y, y = sJ h21 x0 3177 x4 := ⟨_, rfl⟩
  replace hq := hq h25 e26
  refine x_putJ fdX12_1145 dX12_bounds_45 t24 (Or.inl (by rw [t24]; rfl)) rfl e26 ?_
  refine x_aload_n 2 dX12_bounds_48 rfl ?_
  have t27 : tg h25 x0 = 13 := by rw [e26]; exact t24
  refine x_get (v := .int (fI h25 x0 3170)) fdX12_1121 dX12_bounds_49 t27 rfl ?_
  refine x_if_ne (tgt := 68) dX12_bounds_52 (by decide) (fun c28 => ?_) (fun c28 => ?_)
  · replace hq := hq.1 c28
    refine xP.pick (lv' := []) [] rfl ?_
    exact uX12_bounds_68 hq
  · replace hq := hq.2 c28
    refine x_aload_n 2 dX12_bounds_55 rfl ?_
    refine x_aload 1 dX12_bounds_56 rfl ?_
    have t29 : tg h14 (fR h (aR h (fR h x0 3114) (Int32.toNatClampNeg x1)) 5890) = 14 := e16.tg g11 (by decide)
    have t30 : tg h21 (fR h (aR h (fR h x0 3114) (Int32.toNatClampNeg x1)) 5890) = 14 := e23.tg t29 (by decide)
    have t31 : tg h25 (fR h (aR h (fR h x0 3114) (Int32.toNatClampNeg x1)) 5890) = 14 := by rw [e26]; exact t30
    obtain ⟨g32, g33, hq⟩ := hq
    refine x_callV (Yc := YX13_own) (as := []) (st := [rv x0]) q4189 mvX13_own t31 rfl dX12_bounds_58 (xle (xal1 (rv_cat _) xal0) (by decide)) (xfr g32) (xlo (xsw1 (rv_cat _) xsw0) (by decide) g33) (xKr hq (fun x35 h34 hq e36 => ?_) (fun _ _ q _ => q))
    replace hq := hq e36
    refine x_aload 1 dX12_bounds_61 rfl ?_
    refine x_iload 0 dX12_bounds_63 rfl ?_
    have t37 : tg h34 x0 = 13 := e36.tg t27 (by decide)
    obtain ⟨g38, g39, hq⟩ := hq
    refine x_callV (Yc := YX12_suit) (as := [rv x35, rv (fR h (aR h (fR h x0 3114) (Int32.toNatClampNeg x1)) 5890), .int (aI h (fR h x0 3102) (Int32.toNatClampNeg (aI h (fR h x0 3103) (Int32.toNatClampNeg x1))))]) (st := []) q4631 mvX12_suit t37 rfl dX12_bounds_65 (xle (xal1 (rv_cat _) (xal1 (rv_cat _) (xal1 (rv_cat _) (xal1 rfl xal0)))) (by decide)) (xfr g38) (xlo xsw0 (by decide) g39) (xKv hq (fun h40 hq e42 => ?_) (fun _ _ q _ => q))
    replace hq := hq e42
    refine xP.pick (lv' := []) [] rfl ?_
    exact uX12_bounds_68 hq
theorem rX12_bounds {G : xG} {fr lo : Nat} {x0 : Nat} {x1 : Int32} {x2 : Int64} {x4 : Int64} {h : xH} {Q : Outcome → xH → Prop} (hq : bX12_bounds G fr lo x0 x1 x2 x4 h Q) : xR G YX12_bounds fr lo [rv x0, .int x1, .long x2, .long x4] h Q := by
  show xP _ _ _ _ _ (lv_args 0 _) _ _ _
  rw [show lv_args 0 [rv x0, .int x1, .long x2, .long x4] = [(0, rv x0), (1, .int x1), (2, .long x2), (4, .long x4)] from (xla1 (rv_cat _) (xla1 rfl (xla2 rfl (xla2 rfl xla0))))]
  exact uX12_bounds hq
set_option maxRecDepth 100000 in
theorem dX12_openAll_0 : decode cX12_openAll 0 = .ok (.aload_n 0, 1) := by decide +kernel
set_option maxRecDepth 100000 in
theorem dX12_openAll_1 : decode cX12_openAll 1 = .ok (.getfield 73, 3) := by decide +kernel
set_option maxRecDepth 100000 in
theorem dX12_openAll_4 : decode cX12_openAll 4 = .ok (.iload_n 1, 1) := by decide +kernel
set_option maxRecDepth 100000 in
theorem dX12_openAll_5 : decode cX12_openAll 5 = .ok (.iaload, 1) := by decide +kernel
set_option maxRecDepth 100000 in
theorem dX12_openAll_6 : decode cX12_openAll 6 = .ok (.istore_n 2, 1) := by decide +kernel
set_option maxRecDepth 100000 in
theorem dX12_openAll_7 : decode cX12_openAll 7 = .ok (.aload_n 0, 1) := by decide +kernel
set_option maxRecDepth 100000 in
theorem dX12_openAll_8 : decode cX12_openAll 8 = .ok (.getfield 79, 3) := by decide +kernel
set_option maxRecDepth 100000 in
theorem dX12_openAll_11 : decode cX12_openAll 11 = .ok (.iload_n 2, 1) := by decide +kernel
set_option maxRecDepth 100000 in
theorem dX12_openAll_12 : decode cX12_openAll 12 = .ok (.iaload, 1) := by decide +kernel
set_option maxRecDepth 100000 in
theorem dX12_openAll_13 : decode cX12_openAll 13 = .ok (.iconst (-1), 1) := by decide +kernel
set_option maxRecDepth 100000 in
theorem dX12_openAll_14 : decode cX12_openAll 14 = .ok (.if_icmp .eq 48, 3) := by decide +kernel
set_option maxRecDepth 100000 in
theorem dX12_openAll_17 : decode cX12_openAll 17 = .ok (.aload_n 0, 1) := by decide +kernel
set_option maxRecDepth 100000 in
theorem dX12_openAll_18 : decode cX12_openAll 18 = .ok (.getfield 1121, 3) := by decide +kernel
set_option maxRecDepth 100000 in
theorem dX12_openAll_21 : decode cX12_openAll 21 = .ok (.ifCond .ne 41, 3) := by decide +kernel
set_option maxRecDepth 100000 in
theorem dX12_openAll_24 : decode cX12_openAll 24 = .ok (.aload_n 0, 1) := by decide +kernel
set_option maxRecDepth 100000 in
theorem dX12_openAll_25 : decode cX12_openAll 25 = .ok (.iload_n 2, 1) := by decide +kernel
set_option maxRecDepth 100000 in
theorem dX12_openAll_26 : decode cX12_openAll 26 = .ok (.invokevirtual 1248, 3) := by decide +kernel
set_option maxRecDepth 100000 in
theorem dX12_openAll_29 : decode cX12_openAll 29 = .ok (.aload_n 0, 1) := by decide +kernel
set_option maxRecDepth 100000 in
theorem dX12_openAll_30 : decode cX12_openAll 30 = .ok (.getfield 191, 3) := by decide +kernel
set_option maxRecDepth 100000 in
theorem dX12_openAll_33 : decode cX12_openAll 33 = .ok (.bipush 41, 2) := by decide +kernel
set_option maxRecDepth 100000 in
theorem dX12_openAll_35 : decode cX12_openAll 35 = .ok (.aload_n 0, 1) := by decide +kernel
set_option maxRecDepth 100000 in
theorem dX12_openAll_36 : decode cX12_openAll 36 = .ok (.getfield 1130, 3) := by decide +kernel
set_option maxRecDepth 100000 in
theorem dX12_openAll_39 : decode cX12_openAll 39 = .ok (.imul, 1) := by decide +kernel
set_option maxRecDepth 100000 in
theorem dX12_openAll_40 : decode cX12_openAll 40 = .ok (.aload_n 0, 1) := by decide +kernel
set_option maxRecDepth 100000 in
theorem dX12_openAll_41 : decode cX12_openAll 41 = .ok (.getfield 82, 3) := by decide +kernel
set_option maxRecDepth 100000 in
theorem dX12_openAll_44 : decode cX12_openAll 44 = .ok (.iload_n 2, 1) := by decide +kernel
set_option maxRecDepth 100000 in
theorem dX12_openAll_45 : decode cX12_openAll 45 = .ok (.iaload, 1) := by decide +kernel
set_option maxRecDepth 100000 in
theorem dX12_openAll_46 : decode cX12_openAll 46 = .ok (.iadd, 1) := by decide +kernel
set_option maxRecDepth 100000 in
theorem dX12_openAll_47 : decode cX12_openAll 47 = .ok (.aload_n 0, 1) := by decide +kernel
set_option maxRecDepth 100000 in
theorem dX12_openAll_48 : decode cX12_openAll 48 = .ok (.getfield 1236, 3) := by decide +kernel
set_option maxRecDepth 100000 in
theorem dX12_openAll_51 : decode cX12_openAll 51 = .ok (.iastore, 1) := by decide +kernel
set_option maxRecDepth 100000 in
theorem dX12_openAll_52 : decode cX12_openAll 52 = .ok (.aload_n 0, 1) := by decide +kernel
set_option maxRecDepth 100000 in
theorem dX12_openAll_53 : decode cX12_openAll 53 = .ok (.getfield 79, 3) := by decide +kernel
set_option maxRecDepth 100000 in
theorem dX12_openAll_56 : decode cX12_openAll 56 = .ok (.iload_n 2, 1) := by decide +kernel
set_option maxRecDepth 100000 in
theorem dX12_openAll_57 : decode cX12_openAll 57 = .ok (.iaload, 1) := by decide +kernel
set_option maxRecDepth 100000 in
theorem dX12_openAll_58 : decode cX12_openAll 58 = .ok (.istore_n 2, 1) := by decide +kernel
set_option maxRecDepth 100000 in
theorem dX12_openAll_59 : decode cX12_openAll 59 = .ok (.goto (-52), 3) := by decide +kernel
set_option maxRecDepth 100000 in
theorem dX12_openAll_62 : decode cX12_openAll 62 = .ok (.iload_n 2, 1) := by decide +kernel
set_option maxRecDepth 100000 in
theorem dX12_openAll_63 : decode cX12_openAll 63 = .ok (.ireturn, 1) := by decide +kernel
def lX12_openAll_7 (G : xG) (fr lo : Nat) (x0 : Nat) (x2 : Int32) (h : xH) (Q : Outcome → xH → Prop) : Prop := xP G YX12_openAll fr lo 7 [(0, rv x0), (2, .int x2)] [] h Q
set_option maxRecDepth 100000 in
def bX12_openAll_62 (G : xG) (fr lo : Nat) (x2 : Int32) (h : xH) (Q : Outcome → xH → Prop) : Prop := Q (.returned (some (.int x2))) h
set_option maxRecDepth 100000 in
theorem uX12_openAll_62 {G : xG} {fr lo : Nat} {x2 : Int32} {h : xH} {Q : Outcome → xH → Prop} (hq : bX12_openAll_62 G fr lo x2 h Q) : xP G YX12_openAll fr lo 62 [(2, .int x2)] [] h Q := by
  unfold bX12_openAll_62 at hq
  refine x_iload_n 0 dX12_openAll_62 rfl ?_
  exact x_iret rfl rfl dX12_openAll_63 hq
set_option maxRecDepth 100000 in
def bX12_openAll_7 (G : xG) (fr lo : Nat) (x0 : Nat) (x2 : Int32) (h : xH) (Q : Outcome → xH → Prop) : Prop := tg h x0 = 13 ∧ tg h (fR h x0 3105) = 100 ∧ vp_in x2 (ln h (fR h x0 3105)) ∧ (((aI h (fR h x0 3105) (Int32.toNatClampNeg x2)) = (-1) → bX12_openAll_62 G fr lo x2 h Q) ∧ (¬ (aI h (fR h x0 3105) (Int32.toNatClampNeg x2)) = (-1) → ((¬ (fI h x0 3170) = 0 → bX12_openAll_62 G fr lo x2 h Q) ∧ ((fI h x0 3170) = 0 → 1 ≤ fr ∧ 17 ≤ lo ∧ xRv G YX12_find1 (fr - 1) (lo - 17) [rv x0, .int x2] h (fun h8 => xext h h8 → tg h8 (fR h8 x0 3106) = 100 ∧ vp_in x2 (ln h8 (fR h8 x0 3106)) ∧ tg h8 (fR h8 x0 3162) = 100 ∧ vp_in ((41 * (fI h8 x0 3163)) + (aI h8 (fR h8 x0 3106) (Int32.toNatClampNeg x2))) (ln h8 (fR h8 x0 3162)) ∧ (∀ h16 : xH, h16 = tI h8 (fR h8 x0 3162) (Int32.toNatClampNeg ((41 * (fI h8 x0 3163)) + (aI h8 (fR h8 x0 3106) (Int32.toNatClampNeg x2)))) (fI h8 x0 3181) → tg h16 (fR h16 x0 3105) = 100 ∧ vp_in x2 (ln h16 (fR h16 x0 3105)) ∧ lX12_openAll_7 G fr lo x0 (aI h16 (fR h16 x0 3105) (Int32.toNatClampNeg x2)) h16 Q)) (fun r h2 => Q (.threw r) h2)))))
set_option maxRecDepth 100000 in
theorem uX12_openAll_7 {G : xG} {fr lo : Nat} {x0 : Nat} {x2 : Int32} {h : xH} {Q : Outcome → xH → Prop} (hq : bX12_openAll_7 G fr lo x0 x2 h Q) : xP G YX12_openAll fr lo 7 [(0, rv x0), (2, .int x2)] [] h Q := by
  unfold bX12_openAll_7 at hq
  refine x_aload_n 0 dX12_openAll_7 rfl ?_
  obtain ⟨g1, hq⟩ := hq
  refine x_get (v := rv (fR h x0 3105)) fdX12_79 dX12_openAll_8 g1 rfl ?_
  refine x_iload_n 1 dX12_openAll_11 rfl ?_
  obtain ⟨g2, hq⟩ := hq
  obtain ⟨i3, hq⟩ := hq
  refine x_iald 0 (Or.inl rfl) g2 i3 dX12_openAll_12 ?_
  refine x_iconst (v := (-1)) dX12_openAll_13 (by decide) ?_
  refine x_icmp_eq (tgt := 62) dX12_openAll_14 (by decide) (fun c4 => ?_) (fun c4 => ?_)
  · replace hq := hq.1 c4
    refine xP.pick (lv' := [(2, .int x2)]) [1] rfl ?_
    exact uX12_openAll_62 hq
  · replace hq := hq.2 c4
    refine x_aload_n 0 dX12_openAll_17 rfl ?_
    refine x_get (v := .int (fI h x0 3170)) fdX12_1121 dX12_openAll_18 g1 rfl ?_
    refine x_if_ne (tgt := 62) dX12_openAll_21 (by decide) (fun c5 => ?_) (fun c5 => ?_)
    · replace hq := hq.1 c5
      refine xP.pick (lv' := [(2, .int x2)]) [1] rfl ?_
      exact uX12_openAll_62 hq
    · replace hq := hq.2 c5
      refine x_aload_n 0 dX12_openAll_24 rfl ?_
      refine x_iload_n 1 dX12_openAll_25 rfl ?_
      obtain ⟨g6, g7, hq⟩ := hq
      refine x_callV (Yc := YX12_find1) (as := [.int x2]) (st := []) q4615 mvX12_find1 g1 rfl dX12_openAll_26 (xle (xal1 (rv_cat _) (xal1 rfl xal0)) (by decide)) (xfr g6) (xlo xsw0 (by decide) g7) (xKv hq (fun h8 hq e10 => ?_) (fun _ _ q _ => q))
      replace hq := hq e10
      refine x_aload_n 0 dX12_openAll_29 rfl ?_
      have t11 : tg h8 x0 = 13 := e10.tg g1 (by decide)
      refine x_get (v := rv (fR h8 x0 3162)) fdX12_191 dX12_openAll_30 t11 rfl ?_
      refine x_bipush (v := 41) dX12_openAll_33 (by decide) ?_
      refine x_aload_n 0 dX12_openAll_35 rfl ?_
      refine x_get (v := .int (fI h8 x0 3163)) fdX12_1130 dX12_openAll_36 t11 rfl ?_
      refine x_imul dX12_openAll_39 ?_
      refine x_aload_n 0 dX12_openAll_40 rfl ?_
      refine x_get (v := rv (fR h8 x0 3106)) fdX12_82 dX12_openAll_41 t11 rfl ?_
      refine x_iload_n 1 dX12_openAll_44 rfl ?_
      obtain ⟨g12, hq⟩ := hq
      obtain ⟨i13, hq⟩ := hq
      refine x_iald 0 (Or.inl rfl) g12 i13 dX12_openAll_45 ?_
      refine x_iadd dX12_openAll_46 ?_
      refine x_aload_n 0 dX12_openAll_47 rfl ?_
      refine x_get (v := .int (fI h8 x0 3181)) fdX12_1236 dX12_openAll_48 t11 rfl ?_
      obtain ⟨g14, hq⟩ := hq
      obtain ⟨i15, hq⟩ := hq
      obtain ⟨h16, e17⟩ : ∃ y, y = tI h8 (fR h8 x0 3162) (Int32.toNatClampNeg ((41 * (fI h8 x0 3163)) + (aI h8 (fR h8 x0 3106) (Int32.toNatClampNeg x2)))) (fI h8 x0 3181) := ⟨_, rfl⟩
      replace hq := hq h16 e17
      refine x_iast' g14 i15 dX12_openAll_51 e17 ?_
      refine x_aload_n 0 dX12_openAll_52 rfl ?_
      have t18 : tg h16 x0 = 13 := by rw [e17]; exact t11
      refine x_get (v := rv (fR h16 x0 3105)) fdX12_79 dX12_openAll_53 t18 rfl ?_
      refine x_iload_n 1 dX12_openAll_56 rfl ?_
      obtain ⟨g19, hq⟩ := hq
      obtain ⟨i20, hq⟩ := hq
      refine x_iald 0 (Or.inl rfl) g19 i20 dX12_openAll_57 ?_
      refine x_istore_n (lv' := [(2, .int (aI h16 (fR h16 x0 3105) (Int32.toNatClampNeg x2))), (0, rv x0)]) dX12_openAll_58 (by decide) rfl ?_
      refine x_goto (tgt := 7) dX12_openAll_59 (by decide) ?_
      refine xP.pick (lv' := [(0, rv x0), (2, .int (aI h16 (fR h16 x0 3105) (Int32.toNatClampNeg x2)))]) [1, 0] rfl ?_
      exact hq
set_option maxRecDepth 100000 in
def bX12_openAll (G : xG) (fr lo : Nat) (x0 : Nat) (x1 : Int32) (h : xH) (Q : Outcome → xH → Prop) : Prop := tg h x0 = 13 ∧ tg h (fR h x0 3103) = 100 ∧ vp_in x1 (ln h (fR h x0 3103)) ∧ lX12_openAll_7 G fr lo x0 (aI h (fR h x0 3103) (Int32.toNatClampNeg x1)) h Q
set_option maxRecDepth 100000 in
theorem uX12_openAll {G : xG} {fr lo : Nat} {x0 : Nat} {x1 : Int32} {h : xH} {Q : Outcome → xH → Prop} (hq : bX12_openAll G fr lo x0 x1 h Q) : xP G YX12_openAll fr lo 0 [(0, rv x0), (1, .int x1)] [] h Q := by
  unfold bX12_openAll at hq
  refine x_aload_n 0 dX12_openAll_0 rfl ?_
  obtain ⟨g1, hq⟩ := hq
  refine x_get (v := rv (fR h x0 3103)) fdX12_73 dX12_openAll_1 g1 rfl ?_
  refine x_iload_n 1 dX12_openAll_4 rfl ?_
  obtain ⟨g2, hq⟩ := hq
  obtain ⟨i3, hq⟩ := hq
  refine x_iald 0 (Or.inl rfl) g2 i3 dX12_openAll_5 ?_
  refine x_istore_n (lv' := [(2, .int (aI h (fR h x0 3103) (Int32.toNatClampNeg x1))), (0, rv x0), (1, .int x1)]) dX12_openAll_6 (by decide) rfl ?_
  refine xP.pick (lv' := [(0, rv x0), (2, .int (aI h (fR h x0 3103) (Int32.toNatClampNeg x1)))]) [1, 0] rfl ?_
  exact hq
theorem rX12_openAll {G : xG} {fr lo : Nat} {x0 : Nat} {x1 : Int32} {h : xH} {Q : Outcome → xH → Prop} (hq : bX12_openAll G fr lo x0 x1 h Q) : xR G YX12_openAll fr lo [rv x0, .int x1] h Q := by
  show xP _ _ _ _ _ (lv_args 0 _) _ _ _
  rw [show lv_args 0 [rv x0, .int x1] = [(0, rv x0), (1, .int x1)] from (xla1 (rv_cat _) (xla1 rfl xla0))]
  exact uX12_openAll hq
set_option maxRecDepth 100000 in
theorem dX12_assign_0 : decode cX12_assign 0 = .ok (.aload_n 0, 1) := by decide +kernel
set_option maxRecDepth 100000 in
theorem dX12_assign_1 : decode cX12_assign 1 = .ok (.getfield 73, 3) := by decide +kernel
set_option maxRecDepth 100000 in
theorem dX12_assign_4 : decode cX12_assign 4 = .ok (.iload_n 1, 1) := by decide +kernel
set_option maxRecDepth 100000 in
theorem dX12_assign_5 : decode cX12_assign 5 = .ok (.iaload, 1) := by decide +kernel
set_option maxRecDepth 100000 in
theorem dX12_assign_6 : decode cX12_assign 6 = .ok (.istore_n 2, 1) := by decide +kernel
set_option maxRecDepth 100000 in
theorem dX12_assign_7 : decode cX12_assign 7 = .ok (.aload_n 0, 1) := by decide +kernel
set_option maxRecDepth 100000 in
theorem dX12_assign_8 : decode cX12_assign 8 = .ok (.getfield 79, 3) := by decide +kernel
set_option maxRecDepth 100000 in
theorem dX12_assign_11 : decode cX12_assign 11 = .ok (.iload_n 2, 1) := by decide +kernel
set_option maxRecDepth 100000 in
theorem dX12_assign_12 : decode cX12_assign 12 = .ok (.iaload, 1) := by decide +kernel
set_option maxRecDepth 100000 in
theorem dX12_assign_13 : decode cX12_assign 13 = .ok (.istore_n 3, 1) := by decide +kernel
set_option maxRecDepth 100000 in
theorem dX12_assign_14 : decode cX12_assign 14 = .ok (.aload_n 0, 1) := by decide +kernel
set_option maxRecDepth 100000 in
theorem dX12_assign_15 : decode cX12_assign 15 = .ok (.getfield 102, 3) := by decide +kernel
set_option maxRecDepth 100000 in
theorem dX12_assign_18 : decode cX12_assign 18 = .ok (.iload_n 2, 1) := by decide +kernel
set_option maxRecDepth 100000 in
theorem dX12_assign_19 : decode cX12_assign 19 = .ok (.aaload, 1) := by decide +kernel
set_option maxRecDepth 100000 in
theorem dX12_assign_20 : decode cX12_assign 20 = .ok (.astore 4, 2) := by decide +kernel
set_option maxRecDepth 100000 in
theorem dX12_assign_22 : decode cX12_assign 22 = .ok (.aload 4, 2) := by decide +kernel
set_option maxRecDepth 100000 in
theorem dX12_assign_24 : decode cX12_assign 24 = .ok (.getfield 577, 3) := by decide +kernel
set_option maxRecDepth 100000 in
theorem dX12_assign_27 : decode cX12_assign 27 = .ok (.iconst 5, 1) := by decide +kernel
set_option maxRecDepth 100000 in
theorem dX12_assign_28 : decode cX12_assign 28 = .ok (.if_icmp .ne 30, 3) := by decide +kernel
set_option maxRecDepth 100000 in
theorem dX12_assign_31 : decode cX12_assign 31 = .ok (.aload_n 0, 1) := by decide +kernel
set_option maxRecDepth 100000 in
theorem dX12_assign_32 : decode cX12_assign 32 = .ok (.getfield 179, 3) := by decide +kernel
set_option maxRecDepth 100000 in
theorem dX12_assign_35 : decode cX12_assign 35 = .ok (.aload_n 0, 1) := by decide +kernel
set_option maxRecDepth 100000 in
theorem dX12_assign_36 : decode cX12_assign 36 = .ok (.aload 4, 2) := by decide +kernel
set_option maxRecDepth 100000 in
theorem dX12_assign_38 : decode cX12_assign 38 = .ok (.getfield 705, 3) := by decide +kernel
set_option maxRecDepth 100000 in
theorem dX12_assign_41 : decode cX12_assign 41 = .ok (.iconst 1, 1) := by decide +kernel
set_option maxRecDepth 100000 in
theorem dX12_assign_42 : decode cX12_assign 42 = .ok (.iadd, 1) := by decide +kernel
set_option maxRecDepth 100000 in
theorem dX12_assign_43 : decode cX12_assign 43 = .ok (.invokevirtual 1133, 3) := by decide +kernel
set_option maxRecDepth 100000 in
theorem dX12_assign_46 : decode cX12_assign 46 = .ok (.iaload, 1) := by decide +kernel
set_option maxRecDepth 100000 in
theorem dX12_assign_47 : decode cX12_assign 47 = .ok (.aload 4, 2) := by decide +kernel
set_option maxRecDepth 100000 in
theorem dX12_assign_49 : decode cX12_assign 49 = .ok (.getfield 937, 3) := by decide +kernel
set_option maxRecDepth 100000 in
theorem dX12_assign_52 : decode cX12_assign 52 = .ok (.iadd, 1) := by decide +kernel
set_option maxRecDepth 100000 in
theorem dX12_assign_53 : decode cX12_assign 53 = .ok (.istore 5, 2) := by decide +kernel
set_option maxRecDepth 100000 in
theorem dX12_assign_55 : decode cX12_assign 55 = .ok (.goto 14, 3) := by decide +kernel
set_option maxRecDepth 100000 in
theorem dX12_assign_58 : decode cX12_assign 58 = .ok (.aload_n 0, 1) := by decide +kernel
set_option maxRecDepth 100000 in
theorem dX12_assign_59 : decode cX12_assign 59 = .ok (.iload_n 2, 1) := by decide +kernel
set_option maxRecDepth 100000 in
theorem dX12_assign_60 : decode cX12_assign 60 = .ok (.invokevirtual 1248, 3) := by decide +kernel
set_option maxRecDepth 100000 in
theorem dX12_assign_63 : decode cX12_assign 63 = .ok (.aload_n 0, 1) := by decide +kernel
set_option maxRecDepth 100000 in
theorem dX12_assign_64 : decode cX12_assign 64 = .ok (.getfield 1236, 3) := by decide +kernel
set_option maxRecDepth 100000 in
theorem dX12_assign_67 : decode cX12_assign 67 = .ok (.istore 5, 2) := by decide +kernel
set_option maxRecDepth 100000 in
theorem dX12_assign_69 : decode cX12_assign 69 = .ok (.aload_n 0, 1) := by decide +kernel
set_option maxRecDepth 100000 in
theorem dX12_assign_70 : decode cX12_assign 70 = .ok (.getfield 1121, 3) := by decide +kernel
set_option maxRecDepth 100000 in
theorem dX12_assign_73 : decode cX12_assign 73 = .ok (.ifCond .eq 4, 3) := by decide +kernel
set_option maxRecDepth 100000 in
theorem dX12_assign_76 : decode cX12_assign 76 = .ok (.return_, 1) := by decide +kernel
set_option maxRecDepth 100000 in
theorem dX12_assign_77 : decode cX12_assign 77 = .ok (.aload_n 0, 1) := by decide +kernel
set_option maxRecDepth 100000 in
theorem dX12_assign_78 : decode cX12_assign 78 = .ok (.iload_n 3, 1) := by decide +kernel
set_option maxRecDepth 100000 in
theorem dX12_assign_79 : decode cX12_assign 79 = .ok (.invokevirtual 1233, 3) := by decide +kernel
set_option maxRecDepth 100000 in
theorem dX12_assign_82 : decode cX12_assign 82 = .ok (.aload_n 0, 1) := by decide +kernel
set_option maxRecDepth 100000 in
theorem dX12_assign_83 : decode cX12_assign 83 = .ok (.getfield 1121, 3) := by decide +kernel
set_option maxRecDepth 100000 in
theorem dX12_assign_86 : decode cX12_assign 86 = .ok (.ifCond .eq 4, 3) := by decide +kernel
set_option maxRecDepth 100000 in
theorem dX12_assign_89 : decode cX12_assign 89 = .ok (.return_, 1) := by decide +kernel
set_option maxRecDepth 100000 in
theorem dX12_assign_90 : decode cX12_assign 90 = .ok (.aload_n 0, 1) := by decide +kernel
set_option maxRecDepth 100000 in
theorem dX12_assign_91 : decode cX12_assign 91 = .ok (.iload_n 2, 1) := by decide +kernel
set_option maxRecDepth 100000 in
theorem dX12_assign_92 : decode cX12_assign 92 = .ok (.invokevirtual 1407, 3) := by decide +kernel
set_option maxRecDepth 100000 in
theorem dX12_assign_95 : decode cX12_assign 95 = .ok (.astore 6, 2) := by decide +kernel
set_option maxRecDepth 100000 in
theorem dX12_assign_97 : decode cX12_assign 97 = .ok (.aload_n 0, 1) := by decide +kernel
set_option maxRecDepth 100000 in
theorem dX12_assign_98 : decode cX12_assign 98 = .ok (.getfield 169, 3) := by decide +kernel
set_option maxRecDepth 100000 in
theorem dX12_assign_101 : decode cX12_assign 101 = .ok (.iload 5, 2) := by decide +kernel
set_option maxRecDepth 100000 in
theorem dX12_assign_103 : decode cX12_assign 103 = .ok (.baload, 1) := by decide +kernel
set_option maxRecDepth 100000 in
theorem dX12_assign_104 : decode cX12_assign 104 = .ok (.istore 7, 2) := by decide +kernel
set_option maxRecDepth 100000 in
theorem dX12_assign_106 : decode cX12_assign 106 = .ok (.aload 6, 2) := by decide +kernel
set_option maxRecDepth 100000 in
theorem dX12_assign_108 : decode cX12_assign 108 = .ok (.ifnull 24, 3) := by decide +kernel
set_option maxRecDepth 100000 in
theorem dX12_assign_111 : decode cX12_assign 111 = .ok (.iload 7, 2) := by decide +kernel
set_option maxRecDepth 100000 in
theorem dX12_assign_113 : decode cX12_assign 113 = .ok (.ifCond .eq 19, 3) := by decide +kernel
set_option maxRecDepth 100000 in
theorem dX12_assign_116 : decode cX12_assign 116 = .ok (.aload 6, 2) := by decide +kernel
set_option maxRecDepth 100000 in
theorem dX12_assign_118 : decode cX12_assign 118 = .ok (.aload_n 0, 1) := by decide +kernel
set_option maxRecDepth 100000 in
theorem dX12_assign_119 : decode cX12_assign 119 = .ok (.getfield 159, 3) := by decide +kernel
set_option maxRecDepth 100000 in
theorem dX12_assign_122 : decode cX12_assign 122 = .ok (.iload 5, 2) := by decide +kernel
set_option maxRecDepth 100000 in
theorem dX12_assign_124 : decode cX12_assign 124 = .ok (.laload, 1) := by decide +kernel
set_option maxRecDepth 100000 in
theorem dX12_assign_125 : decode cX12_assign 125 = .ok (.l2i, 1) := by decide +kernel
set_option maxRecDepth 100000 in
theorem dX12_assign_126 : decode cX12_assign 126 = .ok (.invokevirtual 917, 3) := by decide +kernel
set_option maxRecDepth 100000 in
theorem dX12_assign_129 : decode cX12_assign 129 = .ok (.goto 4, 3) := by decide +kernel
set_option maxRecDepth 100000 in
theorem dX12_assign_132 : decode cX12_assign 132 = .ok (.iconst (-1), 1) := by decide +kernel
set_option maxRecDepth 100000 in
theorem dX12_assign_133 : decode cX12_assign 133 = .ok (.istore 8, 2) := by decide +kernel
set_option maxRecDepth 100000 in
theorem dX12_assign_135 : decode cX12_assign 135 = .ok (.aload_n 0, 1) := by decide +kernel
set_option maxRecDepth 100000 in
theorem dX12_assign_136 : decode cX12_assign 136 = .ok (.iload 5, 2) := by decide +kernel
set_option maxRecDepth 100000 in
theorem dX12_assign_138 : decode cX12_assign 138 = .ok (.aload_n 0, 1) := by decide +kernel
set_option maxRecDepth 100000 in
theorem dX12_assign_139 : decode cX12_assign 139 = .ok (.getfield 96, 3) := by decide +kernel
set_option maxRecDepth 100000 in
theorem dX12_assign_142 : decode cX12_assign 142 = .ok (.iload_n 3, 1) := by decide +kernel
set_option maxRecDepth 100000 in
theorem dX12_assign_143 : decode cX12_assign 143 = .ok (.aaload, 1) := by decide +kernel
set_option maxRecDepth 100000 in
theorem dX12_assign_144 : decode cX12_assign 144 = .ok (.aload_n 0, 1) := by decide +kernel
set_option maxRecDepth 100000 in
theorem dX12_assign_145 : decode cX12_assign 145 = .ok (.getfield 96, 3) := by decide +kernel
set_option maxRecDepth 100000 in
theorem dX12_assign_148 : decode cX12_assign 148 = .ok (.iload_n 2, 1) := by decide +kernel
set_option maxRecDepth 100000 in
theorem dX12_assign_149 : decode cX12_assign 149 = .ok (.aaload, 1) := by decide +kernel
set_option maxRecDepth 100000 in
theorem dX12_assign_150 : decode cX12_assign 150 = .ok (.aload_n 0, 1) := by decide +kernel
set_option maxRecDepth 100000 in
theorem dX12_assign_151 : decode cX12_assign 151 = .ok (.getfield 82, 3) := by decide +kernel
set_option maxRecDepth 100000 in
theorem dX12_assign_154 : decode cX12_assign 154 = .ok (.iload_n 1, 1) := by decide +kernel
set_option maxRecDepth 100000 in
theorem dX12_assign_155 : decode cX12_assign 155 = .ok (.iaload, 1) := by decide +kernel
set_option maxRecDepth 100000 in
theorem dX12_assign_156 : decode cX12_assign 156 = .ok (.invokevirtual 1411, 3) := by decide +kernel
set_option maxRecDepth 100000 in
theorem dX12_assign_159 : decode cX12_assign 159 = .ok (.aload_n 0, 1) := by decide +kernel
set_option maxRecDepth 100000 in
theorem dX12_assign_160 : decode cX12_assign 160 = .ok (.getfield 1121, 3) := by decide +kernel
set_option maxRecDepth 100000 in
theorem dX12_assign_163 : decode cX12_assign 163 = .ok (.ifCond .ne 8, 3) := by decide +kernel
set_option maxRecDepth 100000 in
theorem dX12_assign_166 : decode cX12_assign 166 = .ok (.aload 6, 2) := by decide +kernel
set_option maxRecDepth 100000 in
theorem dX12_assign_168 : decode cX12_assign 168 = .ok (.ifnonnull 4, 3) := by decide +kernel
set_option maxRecDepth 100000 in
theorem dX12_assign_171 : decode cX12_assign 171 = .ok (.return_, 1) := by decide +kernel
set_option maxRecDepth 100000 in
theorem dX12_assign_172 : decode cX12_assign 172 = .ok (.aload 6, 2) := by decide +kernel
set_option maxRecDepth 100000 in
theorem dX12_assign_174 : decode cX12_assign 174 = .ok (.aload_n 0, 1) := by decide +kernel
set_option maxRecDepth 100000 in
theorem dX12_assign_175 : decode cX12_assign 175 = .ok (.getfield 159, 3) := by decide +kernel
set_option maxRecDepth 100000 in
theorem dX12_assign_178 : decode cX12_assign 178 = .ok (.iload 5, 2) := by decide +kernel
set_option maxRecDepth 100000 in
theorem dX12_assign_180 : decode cX12_assign 180 = .ok (.laload, 1) := by decide +kernel
set_option maxRecDepth 100000 in
theorem dX12_assign_181 : decode cX12_assign 181 = .ok (.l2i, 1) := by decide +kernel
set_option maxRecDepth 100000 in
theorem dX12_assign_182 : decode cX12_assign 182 = .ok (.invokevirtual 917, 3) := by decide +kernel
set_option maxRecDepth 100000 in
theorem dX12_assign_185 : decode cX12_assign 185 = .ok (.istore 9, 2) := by decide +kernel
set_option maxRecDepth 100000 in
theorem dX12_assign_187 : decode cX12_assign 187 = .ok (.iload 8, 2) := by decide +kernel
set_option maxRecDepth 100000 in
theorem dX12_assign_189 : decode cX12_assign 189 = .ok (.iconst (-1), 1) := by decide +kernel
set_option maxRecDepth 100000 in
theorem dX12_assign_190 : decode cX12_assign 190 = .ok (.if_icmp .eq 11, 3) := by decide +kernel
set_option maxRecDepth 100000 in
theorem dX12_assign_193 : decode cX12_assign 193 = .ok (.iload 8, 2) := by decide +kernel
set_option maxRecDepth 100000 in
theorem dX12_assign_195 : decode cX12_assign 195 = .ok (.iload 9, 2) := by decide +kernel
set_option maxRecDepth 100000 in
theorem dX12_assign_197 : decode cX12_assign 197 = .ok (.if_icmp .ne 4, 3) := by decide +kernel
set_option maxRecDepth 100000 in
theorem dX12_assign_200 : decode cX12_assign 200 = .ok (.return_, 1) := by decide +kernel
set_option maxRecDepth 100000 in
theorem dX12_assign_201 : decode cX12_assign 201 = .ok (.iload 5, 2) := by decide +kernel
set_option maxRecDepth 100000 in
theorem dX12_assign_203 : decode cX12_assign 203 = .ok (.aload 6, 2) := by decide +kernel
set_option maxRecDepth 100000 in
theorem dX12_assign_205 : decode cX12_assign 205 = .ok (.getfield 905, 3) := by decide +kernel
set_option maxRecDepth 100000 in
theorem dX12_assign_208 : decode cX12_assign 208 = .ok (.isub, 1) := by decide +kernel
set_option maxRecDepth 100000 in
theorem dX12_assign_209 : decode cX12_assign 209 = .ok (.istore 10, 2) := by decide +kernel
set_option maxRecDepth 100000 in
theorem dX12_assign_211 : decode cX12_assign 211 = .ok (.aload_n 0, 1) := by decide +kernel
set_option maxRecDepth 100000 in
theorem dX12_assign_212 : decode cX12_assign 212 = .ok (.iload 10, 2) := by decide +kernel
set_option maxRecDepth 100000 in
theorem dX12_assign_214 : decode cX12_assign 214 = .ok (.aload 6, 2) := by decide +kernel
set_option maxRecDepth 100000 in
theorem dX12_assign_216 : decode cX12_assign 216 = .ok (.getfield 914, 3) := by decide +kernel
set_option maxRecDepth 100000 in
theorem dX12_assign_219 : decode cX12_assign 219 = .ok (.iadd, 1) := by decide +kernel
set_option maxRecDepth 100000 in
theorem dX12_assign_220 : decode cX12_assign 220 = .ok (.iload 10, 2) := by decide +kernel
set_option maxRecDepth 100000 in
theorem dX12_assign_222 : decode cX12_assign 222 = .ok (.aload 6, 2) := by decide +kernel
set_option maxRecDepth 100000 in
theorem dX12_assign_224 : decode cX12_assign 224 = .ok (.getfield 921, 3) := by decide +kernel
set_option maxRecDepth 100000 in
theorem dX12_assign_227 : decode cX12_assign 227 = .ok (.iadd, 1) := by decide +kernel
set_option maxRecDepth 100000 in
theorem dX12_assign_228 : decode cX12_assign 228 = .ok (.invokevirtual 1178, 3) := by decide +kernel
set_option maxRecDepth 100000 in
theorem dX12_assign_231 : decode cX12_assign 231 = .ok (.return_, 1) := by decide +kernel
set_option maxRecDepth 100000 in
def bX12_assign_201 (G : xG) (fr lo : Nat) (x0 : Nat) (x5 : Int32) (x6 : Nat) (h : xH) (Q : Outcome → xH → Prop) : Prop := tg h x6 = 27 ∧ tg h x0 = 13 ∧ 1 ≤ fr ∧ 15 ≤ lo ∧ xRv G YX12_blank (fr - 1) (lo - 15) [rv x0, .int ((x5 - (fI h x6 6659)) + (fI h x6 6660)), .int ((x5 - (fI h x6 6659)) + (fI h x6 6661))] h (fun h5 => xext h h5 → Q (.returned none) h5) (fun r h2 => Q (.threw r) h2)
set_option maxRecDepth 100000 in
theorem uX12_assign_201 {G : xG} {fr lo : Nat} {x0 : Nat} {x5 : Int32} {x6 : Nat} {h : xH} {Q : Outcome → xH → Prop} (hq : bX12_assign_201 G fr lo x0 x5 x6 h Q) : xP G YX12_assign fr lo 201 [(0, rv x0), (5, .int x5), (6, rv x6)] [] h Q := by
  unfold bX12_assign_201 at hq
  refine x_iload 1 dX12_assign_201 rfl ?_
  refine x_aload 2 dX12_assign_203 rfl ?_
  obtain ⟨g1, hq⟩ := hq
  refine x_get (v := .int (fI h x6 6659)) fdX12_905 dX12_assign_205 g1 rfl ?_
  refine x_isub dX12_assign_208 ?_
  refine x_istore (lv' := [(10, .int (x5 - (fI h x6 6659))), (0, rv x0), (5, .int x5), (6, rv x6)]) dX12_assign_209 (by decide) rfl ?_
  refine x_aload_n 1 dX12_assign_211 rfl ?_
  refine x_iload 0 dX12_assign_212 rfl ?_
  refine x_aload 3 dX12_assign_214 rfl ?_
  refine x_get (v := .int (fI h x6 6660)) fdX12_914 dX12_assign_216 g1 rfl ?_
  refine x_iadd dX12_assign_219 ?_
  refine x_iload 0 dX12_assign_220 rfl ?_
  refine x_aload 3 dX12_assign_222 rfl ?_
  refine x_get (v := .int (fI h x6 6661)) fdX12_921 dX12_assign_224 g1 rfl ?_
  refine x_iadd dX12_assign_227 ?_
  obtain ⟨g2, hq⟩ := hq
  obtain ⟨g3, g4, hq⟩ := hq
  refine x_callV (Yc := YX12_blank) (as := [.int ((x5 - (fI h x6 6659)) + (fI h x6 6660)), .int ((x5 - (fI h x6 6659)) + (fI h x6 6661))]) (st := []) q4494 mvX12_blank g2 rfl dX12_assign_228 (xle (xal1 (rv_cat _) (xal1 rfl (xal1 rfl xal0))) (by decide)) (xfr g3) (xlo xsw0 (by decide) g4) (xKv hq (fun h5 hq e7 => ?_) (fun _ _ q _ => q))
  replace hq := hq e7
  exact x_vret rfl dX12_assign_231 hq
set_option maxRecDepth 100000 in
def bX12_assign_171 (G : xG) (fr lo : Nat) (h : xH) (Q : Outcome → xH → Prop) : Prop := Q (.returned none) h
set_option maxRecDepth 100000 in
theorem uX12_assign_171 {G : xG} {fr lo : Nat} {h : xH} {Q : Outcome → xH → Prop} (hq : bX12_assign_171 G fr lo h Q) : xP G YX12_assign fr lo 171 [] [] h Q := by
  unfold bX12_assign_171 at hq
  exact x_vret rfl dX12_assign_171 hq
set_option maxRecDepth 100000 in
def bX12_assign_133 (G : xG) (fr lo : Nat) (x0 : Nat) (x1 : Int32) (x2 : Int32) (x3 : Int32) (x5 : Int32) (x6 : Nat) (s0 : Int32) (h : xH) (Q : Outcome → xH → Prop) : Prop := tg h x0 = 13 ∧ tg h (fR h x0 3113) = 108 ∧ vp_in x3 (ln h (fR h x0 3113)) ∧ vp_in x2 (ln h (fR h x0 3113)) ∧ tg h (fR h x0 3106) = 100 ∧ vp_in x1 (ln h (fR h x0 3106)) ∧ 1 ≤ fr ∧ 16 ≤ lo ∧ xRv G YX12_store (fr - 1) (lo - 16) [rv x0, .int x5, rv (aR h (fR h x0 3113) (Int32.toNatClampNeg x3)), rv (aR h (fR h x0 3113) (Int32.toNatClampNeg x2)), .int (aI h (fR h x0 3106) (Int32.toNatClampNeg x1))] h (fun h9 => xext h h9 → ((¬ (fI h9 x0 3170) = 0 → bX12_assign_171 G fr lo h9 Q) ∧ ((fI h9 x0 3170) = 0 → ((¬ x6 = 0 → tg h9 (fR h9 x0 3147) = 101 ∧ vp_in x5 (ln h9 (fR h9 x0 3147)) ∧ tg h9 x6 = 27 ∧ 1 ≤ fr ∧ 14 ≤ lo ∧ xRi G YX26_choiceOf (fr - 1) (lo - 14) [rv x6, .int (Int64.toInt32 (aJ h9 (fR h9 x0 3147) (Int32.toNatClampNeg x5)))] h9 (fun x21 h20 => xext h9 h20 → ((s0 = (-1) → bX12_assign_201 G fr lo x0 x5 x6 h20 Q) ∧ (¬ s0 = (-1) → ((¬ s0 = x21 → bX12_assign_201 G fr lo x0 x5 x6 h20 Q) ∧ (s0 = x21 → Q (.returned none) h20))))) (fun r h2 => Q (.threw r) h2)) ∧ (x6 = 0 → bX12_assign_171 G fr lo h9 Q))))) (fun r h2 => Q (.threw r) h2)
set_option maxRecDepth 100000 in
theorem uX12_assign_133 {G : xG} {fr lo : Nat} {x0 : Nat} {x1 : Int32} {x2 : Int32} {x3 : Int32} {x5 : Int32} {x6 : Nat} {s0 : Int32} {h : xH} {Q : Outcome → xH → Prop} (hq : bX12_assign_133 G fr lo x0 x1 x2 x3 x5 x6 s0 h Q) : xP G YX12_assign fr lo 133 [(0, rv x0), (1, .int x1), (2, .int x2), (3, .int x3), (5, .int x5), (6, rv x6)] [.int s0] h Q := by
  unfold bX12_assign_133 at hq
  refine x_istore (lv' := [(8, .int s0), (0, rv x0), (1, .int x1), (2, .int x2), (3, .int x3), (5, .int x5), (6, rv x6)]) dX12_assign_133 (by decide) rfl ?_
  refine x_aload_n 1 dX12_assign_135 rfl ?_
  refine x_iload 5 dX12_assign_136 rfl ?_
  refine x_aload_n 1 dX12_assign_138 rfl ?_
  obtain ⟨g1, hq⟩ := hq
  refine x_get (v := rv (fR h x0 3113)) fdX12_96 dX12_assign_139 g1 rfl ?_
  refine x_iload_n 4 dX12_assign_142 rfl ?_
  obtain ⟨g2, hq⟩ := hq
  obtain ⟨i3, hq⟩ := hq
  refine x_aald 8 rfl g2 (by decide) i3 dX12_assign_143 ?_
  refine x_aload_n 1 dX12_assign_144 rfl ?_
  refine x_get (v := rv (fR h x0 3113)) fdX12_96 dX12_assign_145 g1 rfl ?_
  refine x_iload_n 3 dX12_assign_148 rfl ?_
  obtain ⟨i4, hq⟩ := hq
  refine x_aald 8 rfl g2 (by decide) i4 dX12_assign_149 ?_
  refine x_aload_n 1 dX12_assign_150 rfl ?_
  refine x_get (v := rv (fR h x0 3106)) fdX12_82 dX12_assign_151 g1 rfl ?_
  refine x_iload_n 2 dX12_assign_154 rfl ?_
  obtain ⟨g5, hq⟩ := hq
  obtain ⟨i6, hq⟩ := hq
  refine x_iald 0 (Or.inl rfl) g5 i6 dX12_assign_155 ?_
  obtain ⟨g7, g8, hq⟩ := hq
  refine x_callV (Yc := YX12_store) (as := [.int x5, rv (aR h (fR h x0 3113) (Int32.toNatClampNeg x3)), rv (aR h (fR h x0 3113) (Int32.toNatClampNeg x2)), .int (aI h (fR h x0 3106) (Int32.toNatClampNeg x1))]) (st := []) q4713 mvX12_store g1 rfl dX12_assign_156 (xle (xal1 (rv_cat _) (xal1 rfl (xal1 (rv_cat _) (xal1 (rv_cat _) (xal1 rfl xal0))))) (by decide)) (xfr g7) (xlo xsw0 (by decide) g8) (xKv hq (fun h9 hq e11 => ?_) (fun _ _ q _ => q))
  replace hq := hq e11
  refine x_aload_n 1 dX12_assign_159 rfl ?_
  have t12 : tg h9 x0 = 13 := e11.tg g1 (by decide)
  refine x_get (v := .int (fI h9 x0 3170)) fdX12_1121 dX12_assign_160 t12 rfl ?_
  refine x_if_ne (tgt := 171) dX12_assign_163 (by decide) (fun c13 => ?_) (fun c13 => ?_)
  · replace hq := hq.1 c13
    refine xP.pick (lv' := []) [] rfl ?_
    exact uX12_assign_171 hq
  · replace hq := hq.2 c13
    refine x_aload 6 dX12_assign_166 rfl ?_
    refine x_ifnonnull (tgt := 172) dX12_assign_168 (by decide) (fun c14 => ?_) (fun c14 => ?_)
    · replace hq := hq.1 c14
      refine x_aload 6 dX12_assign_172 rfl ?_
      refine x_aload_n 1 dX12_assign_174 rfl ?_
      refine x_get (v := rv (fR h9 x0 3147)) fdX12_159 dX12_assign_175 t12 rfl ?_
      refine x_iload 5 dX12_assign_178 rfl ?_
      obtain ⟨g15, hq⟩ := hq
      obtain ⟨i16, hq⟩ := hq
      refine x_lald g15 i16 dX12_assign_180 ?_
      refine x_l2i dX12_assign_181 ?_
      obtain ⟨g17, hq⟩ := hq
      obtain ⟨g18, g19, hq⟩ := hq
      refine x_callV (Yc := YX26_choiceOf) (as := [.int (Int64.toInt32 (aJ h9 (fR h9 x0 3147) (Int32.toNatClampNeg x5)))]) (st := []) q4251 mvX26_choiceOf g17 rfl dX12_assign_182 (xle (xal1 (rv_cat _) (xal1 rfl xal0)) (by decide)) (xfr g18) (xlo xsw0 (by decide) g19) (xKi hq (fun x21 h20 hq e22 => ?_) (fun _ _ q _ => q))
      replace hq := hq e22
      refine x_istore (lv' := [(9, .int x21), (8, .int s0), (0, rv x0), (1, .int x1), (2, .int x2), (3, .int x3), (5, .int x5), (6, rv x6)]) dX12_assign_185 (by decide) rfl ?_
      refine x_iload 1 dX12_assign_187 rfl ?_
      refine x_iconst (v := (-1)) dX12_assign_189 (by decide) ?_
      refine x_icmp_eq (tgt := 201) dX12_assign_190 (by decide) (fun c23 => ?_) (fun c23 => ?_)
      · replace hq := hq.1 c23
        refine xP.pick (lv' := [(0, rv x0), (5, .int x5), (6, rv x6)]) [2, 6, 7] rfl ?_
        exact uX12_assign_201 hq
      · replace hq := hq.2 c23
        refine x_iload 1 dX12_assign_193 rfl ?_
        refine x_iload 0 dX12_assign_195 rfl ?_
        refine x_icmp_ne (tgt := 201) dX12_assign_197 (by decide) (fun c24 => ?_) (fun c24 => ?_)
        · replace hq := hq.1 c24
          refine xP.pick (lv' := [(0, rv x0), (5, .int x5), (6, rv x6)]) [2, 6, 7] rfl ?_
          exact uX12_assign_201 hq
        · replace hq := hq.2 c24
          exact x_vret rfl dX12_assign_200 hq
    · replace hq := hq.2 c14
      refine xP.pick (lv' := []) [] rfl ?_
      exact uX12_assign_171 hq
set_option maxRecDepth 100000 in
def bX12_assign_132 (G : xG) (fr lo : Nat) (x0 : Nat) (x1 : Int32) (x2 : Int32) (x3 : Int32) (x5 : Int32) (x6 : Nat) (h : xH) (Q : Outcome → xH → Prop) : Prop := bX12_assign_133 G fr lo x0 x1 x2 x3 x5 x6 (-1) h Q
set_option maxRecDepth 100000 in
theorem uX12_assign_132 {G : xG} {fr lo : Nat} {x0 : Nat} {x1 : Int32} {x2 : Int32} {x3 : Int32} {x5 : Int32} {x6 : Nat} {h : xH} {Q : Outcome → xH → Prop} (hq : bX12_assign_132 G fr lo x0 x1 x2 x3 x5 x6 h Q) : xP G YX12_assign fr lo 132 [(0, rv x0), (1, .int x1), (2, .int x2), (3, .int x3), (5, .int x5), (6, rv x6)] [] h Q := by
  unfold bX12_assign_132 at hq
  refine x_iconst (v := (-1)) dX12_assign_132 (by decide) ?_
  exact uX12_assign_133 hq
set_option maxRecDepth 100000 in
def bX12_assign_69 (G : xG) (fr lo : Nat) (x0 : Nat) (x1 : Int32) (x2 : Int32) (x3 : Int32) (x5 : Int32) (h : xH) (Q : Outcome → xH → Prop) : Prop := tg h x0 = 13 ∧ (((fI h x0 3170) = 0 → 1 ≤ fr ∧ 37 ≤ lo ∧ xRv G YX12_evaluate (fr - 1) (lo - 37) [rv x0, .int x3] h (fun h5 => xext h h5 → (((fI h5 x0 3170) = 0 → 1 ≤ fr ∧ 14 ≤ lo ∧ xRr G YX12_tagged (fr - 1) (lo - 14) [rv x0, .int x2] h5 (fun x13 h12 => xext h5 h12 → tg h12 (fR h12 x0 3150) = 104 ∧ vp_in x5 (ln h12 (fR h12 x0 3150)) ∧ ((x13 = 0 → bX12_assign_132 G fr lo x0 x1 x2 x3 x5 x13 h12 Q) ∧ (¬ x13 = 0 → (((aI h12 (fR h12 x0 3150) (Int32.toNatClampNeg x5)) = 0 → bX12_assign_132 G fr lo x0 x1 x2 x3 x5 x13 h12 Q) ∧ (¬ (aI h12 (fR h12 x0 3150) (Int32.toNatClampNeg x5)) = 0 → tg h12 (fR h12 x0 3147) = 101 ∧ vp_in x5 (ln h12 (fR h12 x0 3147)) ∧ tg h12 x13 = 27 ∧ 1 ≤ fr ∧ 14 ≤ lo ∧ xRi G YX26_choiceOf (fr - 1) (lo - 14) [rv x13, .int (Int64.toInt32 (aJ h12 (fR h12 x0 3147) (Int32.toNatClampNeg x5)))] h12 (fun x26 h25 => xext h12 h25 → bX12_assign_133 G fr lo x0 x1 x2 x3 x5 x13 x26 h25 Q) (fun r h2 => Q (.threw r) h2)))))) (fun r h2 => Q (.threw r) h2)) ∧ (¬ (fI h5 x0 3170) = 0 → Q (.returned none) h5))) (fun r h2 => Q (.threw r) h2)) ∧ (¬ (fI h x0 3170) = 0 → Q (.returned none) h))
set_option maxRecDepth 100000 in
theorem uX12_assign_69 {G : xG} {fr lo : Nat} {x0 : Nat} {x1 : Int32} {x2 : Int32} {x3 : Int32} {x5 : Int32} {h : xH} {Q : Outcome → xH → Prop} (hq : bX12_assign_69 G fr lo x0 x1 x2 x3 x5 h Q) : xP G YX12_assign fr lo 69 [(0, rv x0), (1, .int x1), (2, .int x2), (3, .int x3), (5, .int x5)] [] h Q := by
  unfold bX12_assign_69 at hq
  refine x_aload_n 0 dX12_assign_69 rfl ?_
  obtain ⟨g1, hq⟩ := hq
  refine x_get (v := .int (fI h x0 3170)) fdX12_1121 dX12_assign_70 g1 rfl ?_
  refine x_if_eq (tgt := 77) dX12_assign_73 (by decide) (fun c2 => ?_) (fun c2 => ?_)
  · replace hq := hq.1 c2
    refine x_aload_n 0 dX12_assign_77 rfl ?_
    refine x_iload_n 3 dX12_assign_78 rfl ?_
    obtain ⟨g3, g4, hq⟩ := hq
    refine x_callV (Yc := YX12_evaluate) (as := [.int x3]) (st := []) q4543 mvX12_evaluate g1 rfl dX12_assign_79 (xle (xal1 (rv_cat _) (xal1 rfl xal0)) (by decide)) (xfr g3) (xlo xsw0 (by decide) g4) (xKv hq (fun h5 hq e7 => ?_) (fun _ _ q _ => q))
    replace hq := hq e7
    refine x_aload_n 0 dX12_assign_82 rfl ?_
    have t8 : tg h5 x0 = 13 := e7.tg g1 (by decide)
    refine x_get (v := .int (fI h5 x0 3170)) fdX12_1121 dX12_assign_83 t8 rfl ?_
    refine x_if_eq (tgt := 90) dX12_assign_86 (by decide) (fun c9 => ?_) (fun c9 => ?_)
    · replace hq := hq.1 c9
      refine x_aload_n 0 dX12_assign_90 rfl ?_
      refine x_iload_n 2 dX12_assign_91 rfl ?_
      obtain ⟨g10, g11, hq⟩ := hq
      refine x_callV (Yc := YX12_tagged) (as := [.int x2]) (st := []) q4709 mvX12_tagged t8 rfl dX12_assign_92 (xle (xal1 (rv_cat _) (xal1 rfl xal0)) (by decide)) (xfr g10) (xlo xsw0 (by decide) g11) (xKr hq (fun x13 h12 hq e14 => ?_) (fun _ _ q _ => q))
      replace hq := hq e14
      refine x_astore (lv' := [(6, rv x13), (0, rv x0), (1, .int x1), (2, .int x2), (3, .int x3), (5, .int x5)]) dX12_assign_95 (by decide) rfl ?_
      refine x_aload_n 1 dX12_assign_97 rfl ?_
      have t15 : tg h12 x0 = 13 := e14.tg t8 (by decide)
      refine x_get (v := rv (fR h12 x0 3150)) fdX12_169 dX12_assign_98 t15 rfl ?_
      refine x_iload 5 dX12_assign_101 rfl ?_
      obtain ⟨g16, hq⟩ := hq
      obtain ⟨i17, hq⟩ := hq
      refine x_zald g16 i17 dX12_assign_103 ?_
      refine x_istore (lv' := [(7, .int (aI h12 (fR h12 x0 3150) (Int32.toNatClampNeg x5))), (6, rv x13), (0, rv x0), (1, .int x1), (2, .int x2), (3, .int x3), (5, .int x5)]) dX12_assign_104 (by decide) (by first | rfl | (simp [rv_cat, Value.category]; done) | (simp [rv_cat, Value.category]; decide)) ?_
      refine x_aload 1 dX12_assign_106 rfl ?_
      refine x_ifnull (tgt := 132) dX12_assign_108 (by decide) (fun c18 => ?_) (fun c18 => ?_)
      · replace hq := hq.1 c18
        refine xP.pick (lv' := [(0, rv x0), (1, .int x1), (2, .int x2), (3, .int x3), (5, .int x5), (6, rv x13)]) [2, 3, 4, 5, 6, 1] rfl ?_
        exact uX12_assign_132 hq
      · replace hq := hq.2 c18
        refine x_iload 0 dX12_assign_111 rfl ?_
        refine x_if_eq (tgt := 132) dX12_assign_113 (by decide) (fun c19 => ?_) (fun c19 => ?_)
        · replace hq := hq.1 c19
          refine xP.pick (lv' := [(0, rv x0), (1, .int x1), (2, .int x2), (3, .int x3), (5, .int x5), (6, rv x13)]) [2, 3, 4, 5, 6, 1] rfl ?_
          exact uX12_assign_132 hq
        · replace hq := hq.2 c19
          refine x_aload 1 dX12_assign_116 rfl ?_
          refine x_aload_n 2 dX12_assign_118 rfl ?_
          refine x_get (v := rv (fR h12 x0 3147)) fdX12_159 dX12_assign_119 t15 rfl ?_
          refine x_iload 6 dX12_assign_122 rfl ?_
          obtain ⟨g20, hq⟩ := hq
          obtain ⟨i21, hq⟩ := hq
          refine x_lald g20 i21 dX12_assign_124 ?_
          refine x_l2i dX12_assign_125 ?_
          obtain ⟨g22, hq⟩ := hq
          obtain ⟨g23, g24, hq⟩ := hq
          refine x_callV (Yc := YX26_choiceOf) (as := [.int (Int64.toInt32 (aJ h12 (fR h12 x0 3147) (Int32.toNatClampNeg x5)))]) (st := []) q4251 mvX26_choiceOf g22 rfl dX12_assign_126 (xle (xal1 (rv_cat _) (xal1 rfl xal0)) (by decide)) (xfr g23) (xlo xsw0 (by decide) g24) (xKi hq (fun x26 h25 hq e27 => ?_) (fun _ _ q _ => q))
          replace hq := hq e27
          refine x_goto (tgt := 133) dX12_assign_129 (by decide) ?_
          refine xP.pick (lv' := [(0, rv x0), (1, .int x1), (2, .int x2), (3, .int x3), (5, .int x5), (6, rv x13)]) [2, 3, 4, 5, 6, 1] rfl ?_
          exact uX12_assign_133 hq
    · replace hq := hq.2 c9
      exact x_vret rfl dX12_assign_89 hq
  · replace hq := hq.2 c2
    exact x_vret rfl dX12_assign_76 hq
set_option maxRecDepth 100000 in
def bX12_assign (G : xG) (fr lo : Nat) (x0 : Nat) (x1 : Int32) (h : xH) (Q : Outcome → xH → Prop) : Prop := tg h x0 = 13 ∧ tg h (fR h x0 3103) = 100 ∧ vp_in x1 (ln h (fR h x0 3103)) ∧ tg h (fR h x0 3105) = 100 ∧ vp_in (aI h (fR h x0 3103) (Int32.toNatClampNeg x1)) (ln h (fR h x0 3105)) ∧ tg h (fR h x0 3114) = 109 ∧ vp_in (aI h (fR h x0 3103) (Int32.toNatClampNeg x1)) (ln h (fR h x0 3114)) ∧ tg h (aR h (fR h x0 3114) (Int32.toNatClampNeg (aI h (fR h x0 3103) (Int32.toNatClampNeg x1)))) = 24 ∧ ((¬ (fI h (aR h (fR h x0 3114) (Int32.toNatClampNeg (aI h (fR h x0 3103) (Int32.toNatClampNeg x1)))) 5888) = 5 → 1 ≤ fr ∧ 17 ≤ lo ∧ xRv G YX12_find1 (fr - 1) (lo - 17) [rv x0, .int (aI h (fR h x0 3103) (Int32.toNatClampNeg x1))] h (fun h12 => xext h h12 → bX12_assign_69 G fr lo x0 x1 (aI h (fR h x0 3103) (Int32.toNatClampNeg x1)) (aI h (fR h x0 3105) (Int32.toNatClampNeg (aI h (fR h x0 3103) (Int32.toNatClampNeg x1)))) (fI h12 x0 3181) h12 Q) (fun r h2 => Q (.threw r) h2)) ∧ ((fI h (aR h (fR h x0 3114) (Int32.toNatClampNeg (aI h (fR h x0 3103) (Int32.toNatClampNeg x1)))) 5888) = 5 → 1 ≤ fr ∧ 15 ≤ lo ∧ xRi G YX12_frameOf (fr - 1) (lo - 15) [rv x0, .int ((fI h (aR h (fR h x0 3114) (Int32.toNatClampNeg (aI h (fR h x0 3103) (Int32.toNatClampNeg x1)))) 5893) + 1)] h (fun x19 h18 => xext h h18 → tg h18 (fR h x0 3158) = 100 ∧ vp_in x19 (ln h18 (fR h x0 3158)) ∧ bX12_assign_69 G fr lo x0 x1 (aI h (fR h x0 3103) (Int32.toNatClampNeg x1)) (aI h (fR h x0 3105) (Int32.toNatClampNeg (aI h (fR h x0 3103) (Int32.toNatClampNeg x1)))) ((aI h18 (fR h x0 3158) (Int32.toNatClampNeg x19)) + (fI h18 (aR h (fR h x0 3114) (Int32.toNatClampNeg (aI h (fR h x0 3103) (Int32.toNatClampNeg x1)))) 5915)) h18 Q) (fun r h2 => Q (.threw r) h2)))
set_option maxRecDepth 100000 in
theorem uX12_assign {G : xG} {fr lo : Nat} {x0 : Nat} {x1 : Int32} {h : xH} {Q : Outcome → xH → Prop} (hq : bX12_assign G fr lo x0 x1 h Q) : xP G YX12_assign fr lo 0 [(0, rv x0), (1, .int x1)] [] h Q := by
  unfold bX12_assign at hq
  refine x_aload_n 0 dX12_assign_0 rfl ?_
  obtain ⟨g1, hq⟩ := hq
  refine x_get (v := rv (fR h x0 3103)) fdX12_73 dX12_assign_1 g1 rfl ?_
  refine x_iload_n 1 dX12_assign_4 rfl ?_
  obtain ⟨g2, hq⟩ := hq
  obtain ⟨i3, hq⟩ := hq
  refine x_iald 0 (Or.inl rfl) g2 i3 dX12_assign_5 ?_
  refine x_istore_n (lv' := [(2, .int (aI h (fR h x0 3103) (Int32.toNatClampNeg x1))), (0, rv x0), (1, .int x1)]) dX12_assign_6 (by decide) rfl ?_
  refine x_aload_n 1 dX12_assign_7 rfl ?_
  refine x_get (v := rv (fR h x0 3105)) fdX12_79 dX12_assign_8 g1 rfl ?_
  refine x_iload_n 0 dX12_assign_11 rfl ?_
  obtain ⟨g4, hq⟩ := hq
  obtain ⟨i5, hq⟩ := hq
  refine x_iald 0 (Or.inl rfl) g4 i5 dX12_assign_12 ?_
  refine x_istore_n (lv' := [(3, .int (aI h (fR h x0 3105) (Int32.toNatClampNeg (aI h (fR h x0 3103) (Int32.toNatClampNeg x1))))), (2, .int (aI h (fR h x0 3103) (Int32.toNatClampNeg x1))), (0, rv x0), (1, .int x1)]) dX12_assign_13 (by decide) rfl ?_
  refine x_aload_n 2 dX12_assign_14 rfl ?_
  refine x_get (v := rv (fR h x0 3114)) fdX12_102 dX12_assign_15 g1 rfl ?_
  refine x_iload_n 1 dX12_assign_18 rfl ?_
  obtain ⟨g6, hq⟩ := hq
  obtain ⟨i7, hq⟩ := hq
  refine x_aald 9 rfl g6 (by decide) i7 dX12_assign_19 ?_
  refine x_astore (lv' := [(4, rv (aR h (fR h x0 3114) (Int32.toNatClampNeg (aI h (fR h x0 3103) (Int32.toNatClampNeg x1))))), (3, .int (aI h (fR h x0 3105) (Int32.toNatClampNeg (aI h (fR h x0 3103) (Int32.toNatClampNeg x1))))), (2, .int (aI h (fR h x0 3103) (Int32.toNatClampNeg x1))), (0, rv x0), (1, .int x1)]) dX12_assign_20 (by decide) rfl ?_
  refine x_aload 0 dX12_assign_22 rfl ?_
  obtain ⟨g8, hq⟩ := hq
  refine x_get (v := .int (fI h (aR h (fR h x0 3114) (Int32.toNatClampNeg (aI h (fR h x0 3103) (Int32.toNatClampNeg x1)))) 5888)) fdX12_577 dX12_assign_24 g8 rfl ?_
  refine x_iconst (v := 5) dX12_assign_27 (by decide) ?_
  refine x_icmp_ne (tgt := 58) dX12_assign_28 (by decide) (fun c9 => ?_) (fun c9 => ?_)
  · replace hq := hq.1 c9
    refine x_aload_n 3 dX12_assign_58 rfl ?_
    refine x_iload_n 2 dX12_assign_59 rfl ?_
    obtain ⟨g10, g11, hq⟩ := hq
    refine x_callV (Yc := YX12_find1) (as := [.int (aI h (fR h x0 3103) (Int32.toNatClampNeg x1))]) (st := []) q4615 mvX12_find1 g1 rfl dX12_assign_60 (xle (xal1 (rv_cat _) (xal1 rfl xal0)) (by decide)) (xfr g10) (xlo xsw0 (by decide) g11) (xKv hq (fun h12 hq e14 => ?_) (fun _ _ q _ => q))
    replace hq := hq e14
    refine x_aload_n 3 dX12_assign_63 rfl ?_
    have t15 : tg h12 x0 = 13 := e14.tg g1 (by decide)
    refine x_get (v := .int (fI h12 x0 3181)) fdX12_1236 dX12_assign_64 t15 rfl ?_
    refine x_istore (lv' := [(5, .int (fI h12 x0 3181)), (4, rv (aR h (fR h x0 3114) (Int32.toNatClampNeg (aI h (fR h x0 3103) (Int32.toNatClampNeg x1))))), (3, .int (aI h (fR h x0 3105) (Int32.toNatClampNeg (aI h (fR h x0 3103) (Int32.toNatClampNeg x1))))), (2, .int (aI h (fR h x0 3103) (Int32.toNatClampNeg x1))), (0, rv x0), (1, .int x1)]) dX12_assign_67 (by decide) (by first | rfl | (simp [rv_cat, Value.category]; done) | (simp [rv_cat, Value.category]; decide)) ?_
    refine xP.pick (lv' := [(0, rv x0), (1, .int x1), (2, .int (aI h (fR h x0 3103) (Int32.toNatClampNeg x1))), (3, .int (aI h (fR h x0 3105) (Int32.toNatClampNeg (aI h (fR h x0 3103) (Int32.toNatClampNeg x1))))), (5, .int (fI h12 x0 3181))]) [4, 5, 3, 2, 0] rfl ?_
    exact uX12_assign_69 hq
  · replace hq := hq.2 c9
    refine x_aload_n 3 dX12_assign_31 rfl ?_
    refine x_get (v := rv (fR h x0 3158)) fdX12_179 dX12_assign_32 g1 rfl ?_
    refine x_aload_n 3 dX12_assign_35 rfl ?_
    refine x_aload 0 dX12_assign_36 rfl ?_
    refine x_get (v := .int (fI h (aR h (fR h x0 3114) (Int32.toNatClampNeg (aI h (fR h x0 3103) (Int32.toNatClampNeg x1)))) 5893)) fdX12_705 dX12_assign_38 g8 rfl ?_
    refine x_iconst (v := 1) dX12_assign_41 (by decide) ?_
    refine x_iadd dX12_assign_42 ?_
    obtain ⟨g16, g17, hq⟩ := hq
    refine x_callV (Yc := YX12_frameOf) (as := [.int ((fI h (aR h (fR h x0 3114) (Int32.toNatClampNeg (aI h (fR h x0 3103) (Int32.toNatClampNeg x1)))) 5893) + 1)]) (st := [rv (fR h x0 3158)]) q4510 mvX12_frameOf g1 rfl dX12_assign_43 (xle (xal1 (rv_cat _) (xal1 rfl xal0)) (by decide)) (xfr g16) (xlo (xsw1 (rv_cat _) xsw0) (by decide) g17) (xKi hq (fun x19 h18 hq e20 => ?_) (fun _ _ q _ => q))
    replace hq := hq e20
    obtain ⟨g21, hq⟩ := hq
    obtain ⟨i22, hq⟩ := hq
    refine x_iald 0 (Or.inl rfl) g21 i22 dX12_assign_46 ?_
    refine x_aload 0 dX12_assign_47 rfl ?_
    have t23 : tg h18 (aR h (fR h x0 3114) (Int32.toNatClampNeg (aI h (fR h x0 3103) (Int32.toNatClampNeg x1)))) = 24 := e20.tg g8 (by decide)
    refine x_get (v := .int (fI h18 (aR h (fR h x0 3114) (Int32.toNatClampNeg (aI h (fR h x0 3103) (Int32.toNatClampNeg x1)))) 5915)) fdX12_937 dX12_assign_49 t23 rfl ?_
    refine x_iadd dX12_assign_52 ?_
    refine x_istore (lv' := [(5, .int ((aI h18 (fR h x0 3158) (Int32.toNatClampNeg x19)) + (fI h18 (aR h (fR h x0 3114) (Int32.toNatClampNeg (aI h (fR h x0 3103) (Int32.toNatClampNeg x1)))) 5915))), (4, rv (aR h (fR h x0 3114) (Int32.toNatClampNeg (aI h (fR h x0 3103) (Int32.toNatClampNeg x1))))), (3, .int (aI h (fR h x0 3105) (Int32.toNatClampNeg (aI h (fR h x0 3103) (Int32.toNatClampNeg x1))))), (2, .int (aI h (fR h x0 3103) (Int32.toNatClampNeg x1))), (0, rv x0), (1, .int x1)]) dX12_assign_53 (by decide) (by first | rfl | (simp [rv_cat, Value.category]; done) | (simp [rv_cat, Value.category]; decide)) ?_
    refine x_goto (tgt := 69) dX12_assign_55 (by decide) ?_
    refine xP.pick (lv' := [(0, rv x0), (1, .int x1), (2, .int (aI h (fR h x0 3103) (Int32.toNatClampNeg x1))), (3, .int (aI h (fR h x0 3105) (Int32.toNatClampNeg (aI h (fR h x0 3103) (Int32.toNatClampNeg x1))))), (5, .int ((aI h18 (fR h x0 3158) (Int32.toNatClampNeg x19)) + (fI h18 (aR h (fR h x0 3114) (Int32.toNatClampNeg (aI h (fR h x0 3103) (Int32.toNatClampNeg x1)))) 5915)))]) [4, 5, 3, 2, 0] rfl ?_
    exact uX12_assign_69 hq
theorem rX12_assign {G : xG} {fr lo : Nat} {x0 : Nat} {x1 : Int32} {h : xH} {Q : Outcome → xH → Prop} (hq : bX12_assign G fr lo x0 x1 h Q) : xR G YX12_assign fr lo [rv x0, .int x1] h Q := by
  show xP _ _ _ _ _ (lv_args 0 _) _ _ _
  rw [show lv_args 0 [rv x0, .int x1] = [(0, rv x0), (1, .int x1)] from (xla1 (rv_cat _) (xla1 rfl xla0))]
  exact uX12_assign hq
set_option maxRecDepth 100000 in
theorem dX12_tagged_0 : decode cX12_tagged 0 = .ok (.aload_n 0, 1) := by decide +kernel
set_option maxRecDepth 100000 in
theorem dX12_tagged_1 : decode cX12_tagged 1 = .ok (.getfield 73, 3) := by decide +kernel
set_option maxRecDepth 100000 in
theorem dX12_tagged_4 : decode cX12_tagged 4 = .ok (.iload_n 1, 1) := by decide +kernel
set_option maxRecDepth 100000 in
theorem dX12_tagged_5 : decode cX12_tagged 5 = .ok (.iaload, 1) := by decide +kernel
set_option maxRecDepth 100000 in
theorem dX12_tagged_6 : decode cX12_tagged 6 = .ok (.iconst (-1), 1) := by decide +kernel
set_option maxRecDepth 100000 in
theorem dX12_tagged_7 : decode cX12_tagged 7 = .ok (.if_icmp .ne 12, 3) := by decide +kernel
set_option maxRecDepth 100000 in
theorem dX12_tagged_10 : decode cX12_tagged 10 = .ok (.aload_n 0, 1) := by decide +kernel
set_option maxRecDepth 100000 in
theorem dX12_tagged_11 : decode cX12_tagged 11 = .ok (.getfield 102, 3) := by decide +kernel
set_option maxRecDepth 100000 in
theorem dX12_tagged_14 : decode cX12_tagged 14 = .ok (.iload_n 1, 1) := by decide +kernel
set_option maxRecDepth 100000 in
theorem dX12_tagged_15 : decode cX12_tagged 15 = .ok (.aaload, 1) := by decide +kernel
set_option maxRecDepth 100000 in
theorem dX12_tagged_16 : decode cX12_tagged 16 = .ok (.goto 34, 3) := by decide +kernel
set_option maxRecDepth 100000 in
theorem dX12_tagged_19 : decode cX12_tagged 19 = .ok (.aload_n 0, 1) := by decide +kernel
set_option maxRecDepth 100000 in
theorem dX12_tagged_20 : decode cX12_tagged 20 = .ok (.getfield 67, 3) := by decide +kernel
set_option maxRecDepth 100000 in
theorem dX12_tagged_23 : decode cX12_tagged 23 = .ok (.aload_n 0, 1) := by decide +kernel
set_option maxRecDepth 100000 in
theorem dX12_tagged_24 : decode cX12_tagged 24 = .ok (.getfield 76, 3) := by decide +kernel
set_option maxRecDepth 100000 in
theorem dX12_tagged_27 : decode cX12_tagged 27 = .ok (.iload_n 1, 1) := by decide +kernel
set_option maxRecDepth 100000 in
theorem dX12_tagged_28 : decode cX12_tagged 28 = .ok (.iaload, 1) := by decide +kernel
set_option maxRecDepth 100000 in
theorem dX12_tagged_29 : decode cX12_tagged 29 = .ok (.iaload, 1) := by decide +kernel
set_option maxRecDepth 100000 in
theorem dX12_tagged_30 : decode cX12_tagged 30 = .ok (.bipush 64, 2) := by decide +kernel
set_option maxRecDepth 100000 in
theorem dX12_tagged_32 : decode cX12_tagged 32 = .ok (.if_icmp .ne 17, 3) := by decide +kernel
set_option maxRecDepth 100000 in
theorem dX12_tagged_35 : decode cX12_tagged 35 = .ok (.aload_n 0, 1) := by decide +kernel
set_option maxRecDepth 100000 in
theorem dX12_tagged_36 : decode cX12_tagged 36 = .ok (.getfield 102, 3) := by decide +kernel
set_option maxRecDepth 100000 in
theorem dX12_tagged_39 : decode cX12_tagged 39 = .ok (.aload_n 0, 1) := by decide +kernel
set_option maxRecDepth 100000 in
theorem dX12_tagged_40 : decode cX12_tagged 40 = .ok (.getfield 76, 3) := by decide +kernel
set_option maxRecDepth 100000 in
theorem dX12_tagged_43 : decode cX12_tagged 43 = .ok (.iload_n 1, 1) := by decide +kernel
set_option maxRecDepth 100000 in
theorem dX12_tagged_44 : decode cX12_tagged 44 = .ok (.iaload, 1) := by decide +kernel
set_option maxRecDepth 100000 in
theorem dX12_tagged_45 : decode cX12_tagged 45 = .ok (.aaload, 1) := by decide +kernel
set_option maxRecDepth 100000 in
theorem dX12_tagged_46 : decode cX12_tagged 46 = .ok (.goto 4, 3) := by decide +kernel
set_option maxRecDepth 100000 in
theorem dX12_tagged_49 : decode cX12_tagged 49 = .ok (.aconst_null, 1) := by decide +kernel
set_option maxRecDepth 100000 in
theorem dX12_tagged_50 : decode cX12_tagged 50 = .ok (.astore_n 2, 1) := by decide +kernel
set_option maxRecDepth 100000 in
theorem dX12_tagged_51 : decode cX12_tagged 51 = .ok (.aload_n 2, 1) := by decide +kernel
set_option maxRecDepth 100000 in
theorem dX12_tagged_52 : decode cX12_tagged 52 = .ok (.ifnonnull 7, 3) := by decide +kernel
set_option maxRecDepth 100000 in
theorem dX12_tagged_55 : decode cX12_tagged 55 = .ok (.aconst_null, 1) := by decide +kernel
set_option maxRecDepth 100000 in
theorem dX12_tagged_56 : decode cX12_tagged 56 = .ok (.goto 7, 3) := by decide +kernel
set_option maxRecDepth 100000 in
theorem dX12_tagged_59 : decode cX12_tagged 59 = .ok (.aload_n 2, 1) := by decide +kernel
set_option maxRecDepth 100000 in
theorem dX12_tagged_60 : decode cX12_tagged 60 = .ok (.getfield 911, 3) := by decide +kernel
set_option maxRecDepth 100000 in
theorem dX12_tagged_63 : decode cX12_tagged 63 = .ok (.areturn, 1) := by decide +kernel
set_option maxRecDepth 100000 in
def bX12_tagged_63 (G : xG) (fr lo : Nat) (s0 : Nat) (h : xH) (Q : Outcome → xH → Prop) : Prop := Q (.returned (some (rv s0))) h
set_option maxRecDepth 100000 in
theorem uX12_tagged_63 {G : xG} {fr lo : Nat} {s0 : Nat} {h : xH} {Q : Outcome → xH → Prop} (hq : bX12_tagged_63 G fr lo s0 h Q) : xP G YX12_tagged fr lo 63 [] [rv s0] h Q := by
  unfold bX12_tagged_63 at hq
  exact x_aret rfl xty_O dX12_tagged_63 hq
set_option maxRecDepth 100000 in
def bX12_tagged_50 (G : xG) (fr lo : Nat) (s0 : Nat) (h : xH) (Q : Outcome → xH → Prop) : Prop := ((¬ s0 = 0 → tg h s0 = 24 ∧ bX12_tagged_63 G fr lo (fR h s0 5901) h Q) ∧ (s0 = 0 → bX12_tagged_63 G fr lo 0 h Q))
set_option maxRecDepth 100000 in
theorem uX12_tagged_50 {G : xG} {fr lo : Nat} {s0 : Nat} {h : xH} {Q : Outcome → xH → Prop} (hq : bX12_tagged_50 G fr lo s0 h Q) : xP G YX12_tagged fr lo 50 [] [rv s0] h Q := by
  unfold bX12_tagged_50 at hq
  refine x_astore_n (lv' := [(2, rv s0)]) dX12_tagged_50 (by decide) rfl ?_
  refine x_aload_n 0 dX12_tagged_51 rfl ?_
  refine x_ifnonnull (tgt := 59) dX12_tagged_52 (by decide) (fun c1 => ?_) (fun c1 => ?_)
  · replace hq := hq.1 c1
    refine x_aload_n 0 dX12_tagged_59 rfl ?_
    obtain ⟨g2, hq⟩ := hq
    refine x_get (v := rv (fR h s0 5901)) fdX12_911 dX12_tagged_60 g2 rfl ?_
    refine xP.pick (lv' := []) [] rfl ?_
    exact uX12_tagged_63 hq
  · replace hq := hq.2 c1
    refine x_null dX12_tagged_55 ?_
    refine x_goto (tgt := 63) dX12_tagged_56 (by decide) ?_
    refine xP.pick (lv' := []) [] rfl ?_
    exact uX12_tagged_63 hq
set_option maxRecDepth 100000 in
def bX12_tagged (G : xG) (fr lo : Nat) (x0 : Nat) (x1 : Int32) (h : xH) (Q : Outcome → xH → Prop) : Prop := tg h x0 = 13 ∧ tg h (fR h x0 3103) = 100 ∧ vp_in x1 (ln h (fR h x0 3103)) ∧ ((¬ (aI h (fR h x0 3103) (Int32.toNatClampNeg x1)) = (-1) → tg h (fR h x0 3104) = 100 ∧ vp_in x1 (ln h (fR h x0 3104)) ∧ tg h (fR h x0 3101) = 100 ∧ vp_in (aI h (fR h x0 3104) (Int32.toNatClampNeg x1)) (ln h (fR h x0 3101)) ∧ ((¬ (aI h (fR h x0 3101) (Int32.toNatClampNeg (aI h (fR h x0 3104) (Int32.toNatClampNeg x1)))) = 64 → bX12_tagged_50 G fr lo 0 h Q) ∧ ((aI h (fR h x0 3101) (Int32.toNatClampNeg (aI h (fR h x0 3104) (Int32.toNatClampNeg x1)))) = 64 → vp_in x1 (ln h (fR h x0 3104)) ∧ tg h (fR h x0 3114) = 109 ∧ vp_in (aI h (fR h x0 3104) (Int32.toNatClampNeg x1)) (ln h (fR h x0 3114)) ∧ bX12_tagged_50 G fr lo (aR h (fR h x0 3114) (Int32.toNatClampNeg (aI h (fR h x0 3104) (Int32.toNatClampNeg x1)))) h Q))) ∧ ((aI h (fR h x0 3103) (Int32.toNatClampNeg x1)) = (-1) → tg h (fR h x0 3114) = 109 ∧ vp_in x1 (ln h (fR h x0 3114)) ∧ bX12_tagged_50 G fr lo (aR h (fR h x0 3114) (Int32.toNatClampNeg x1)) h Q))
set_option maxRecDepth 100000 in
theorem uX12_tagged {G : xG} {fr lo : Nat} {x0 : Nat} {x1 : Int32} {h : xH} {Q : Outcome → xH → Prop} (hq : bX12_tagged G fr lo x0 x1 h Q) : xP G YX12_tagged fr lo 0 [(0, rv x0), (1, .int x1)] [] h Q := by
  unfold bX12_tagged at hq
  refine x_aload_n 0 dX12_tagged_0 rfl ?_
  obtain ⟨g1, hq⟩ := hq
  refine x_get (v := rv (fR h x0 3103)) fdX12_73 dX12_tagged_1 g1 rfl ?_
  refine x_iload_n 1 dX12_tagged_4 rfl ?_
  obtain ⟨g2, hq⟩ := hq
  obtain ⟨i3, hq⟩ := hq
  refine x_iald 0 (Or.inl rfl) g2 i3 dX12_tagged_5 ?_
  refine x_iconst (v := (-1)) dX12_tagged_6 (by decide) ?_
  refine x_icmp_ne (tgt := 19) dX12_tagged_7 (by decide) (fun c4 => ?_) (fun c4 => ?_)
  · replace hq := hq.1 c4
    refine x_aload_n 0 dX12_tagged_19 rfl ?_
    refine x_get (v := rv (fR h x0 3101)) fdX12_67 dX12_tagged_20 g1 rfl ?_
    refine x_aload_n 0 dX12_tagged_23 rfl ?_
    refine x_get (v := rv (fR h x0 3104)) fdX12_76 dX12_tagged_24 g1 rfl ?_
    refine x_iload_n 1 dX12_tagged_27 rfl ?_
    obtain ⟨g5, hq⟩ := hq
    obtain ⟨i6, hq⟩ := hq
    refine x_iald 0 (Or.inl rfl) g5 i6 dX12_tagged_28 ?_
    obtain ⟨g7, hq⟩ := hq
    obtain ⟨i8, hq⟩ := hq
    refine x_iald 0 (Or.inl rfl) g7 i8 dX12_tagged_29 ?_
    refine x_bipush (v := 64) dX12_tagged_30 (by decide) ?_
    refine x_icmp_ne (tgt := 49) dX12_tagged_32 (by decide) (fun c9 => ?_) (fun c9 => ?_)
    · replace hq := hq.1 c9
      refine x_null dX12_tagged_49 ?_
      refine xP.pick (lv' := []) [] rfl ?_
      exact uX12_tagged_50 hq
    · replace hq := hq.2 c9
      refine x_aload_n 0 dX12_tagged_35 rfl ?_
      refine x_get (v := rv (fR h x0 3114)) fdX12_102 dX12_tagged_36 g1 rfl ?_
      refine x_aload_n 0 dX12_tagged_39 rfl ?_
      refine x_get (v := rv (fR h x0 3104)) fdX12_76 dX12_tagged_40 g1 rfl ?_
      refine x_iload_n 1 dX12_tagged_43 rfl ?_
      obtain ⟨i10, hq⟩ := hq
      refine x_iald 0 (Or.inl rfl) g5 i10 dX12_tagged_44 ?_
      obtain ⟨g11, hq⟩ := hq
      obtain ⟨i12, hq⟩ := hq
      refine x_aald 9 rfl g11 (by decide) i12 dX12_tagged_45 ?_
      refine x_goto (tgt := 50) dX12_tagged_46 (by decide) ?_
      refine xP.pick (lv' := []) [] rfl ?_
      exact uX12_tagged_50 hq
  · replace hq := hq.2 c4
    refine x_aload_n 0 dX12_tagged_10 rfl ?_
    refine x_get (v := rv (fR h x0 3114)) fdX12_102 dX12_tagged_11 g1 rfl ?_
    refine x_iload_n 1 dX12_tagged_14 rfl ?_
    obtain ⟨g13, hq⟩ := hq
    obtain ⟨i14, hq⟩ := hq
    refine x_aald 9 rfl g13 (by decide) i14 dX12_tagged_15 ?_
    refine x_goto (tgt := 50) dX12_tagged_16 (by decide) ?_
    refine xP.pick (lv' := []) [] rfl ?_
    exact uX12_tagged_50 hq
theorem rX12_tagged {G : xG} {fr lo : Nat} {x0 : Nat} {x1 : Int32} {h : xH} {Q : Outcome → xH → Prop} (hq : bX12_tagged G fr lo x0 x1 h Q) : xR G YX12_tagged fr lo [rv x0, .int x1] h Q := by
  show xP _ _ _ _ _ (lv_args 0 _) _ _ _
  rw [show lv_args 0 [rv x0, .int x1] = [(0, rv x0), (1, .int x1)] from (xla1 (rv_cat _) (xla1 rfl xla0))]
  exact uX12_tagged hq
set_option maxRecDepth 100000 in
theorem dX12_store_0 : decode cX12_store 0 = .ok (.aload_n 3, 1) := by decide +kernel
set_option maxRecDepth 100000 in
theorem dX12_store_1 : decode cX12_store 1 = .ok (.invokevirtual 1139, 3) := by decide +kernel
set_option maxRecDepth 100000 in
theorem dX12_store_4 : decode cX12_store 4 = .ok (.ifCond .eq 18, 3) := by decide +kernel
set_option maxRecDepth 100000 in
theorem dX12_store_7 : decode cX12_store 7 = .ok (.aload_n 0, 1) := by decide +kernel
set_option maxRecDepth 100000 in
theorem dX12_store_8 : decode cX12_store 8 = .ok (.aload_n 0, 1) := by decide +kernel
set_option maxRecDepth 100000 in
theorem dX12_store_9 : decode cX12_store 9 = .ok (.getfield 1136, 3) := by decide +kernel
set_option maxRecDepth 100000 in
theorem dX12_store_12 : decode cX12_store 12 = .ok (.iload_n 1, 1) := by decide +kernel
set_option maxRecDepth 100000 in
theorem dX12_store_13 : decode cX12_store 13 = .ok (.aload_n 3, 1) := by decide +kernel
set_option maxRecDepth 100000 in
theorem dX12_store_14 : decode cX12_store 14 = .ok (.getfield 603, 3) := by decide +kernel
set_option maxRecDepth 100000 in
theorem dX12_store_17 : decode cX12_store 17 = .ok (.l2i, 1) := by decide +kernel
set_option maxRecDepth 100000 in
theorem dX12_store_18 : decode cX12_store 18 = .ok (.invokevirtual 1165, 3) := by decide +kernel
set_option maxRecDepth 100000 in
theorem dX12_store_21 : decode cX12_store 21 = .ok (.return_, 1) := by decide +kernel
set_option maxRecDepth 100000 in
theorem dX12_store_22 : decode cX12_store 22 = .ok (.aload_n 0, 1) := by decide +kernel
set_option maxRecDepth 100000 in
theorem dX12_store_23 : decode cX12_store 23 = .ok (.aload_n 2, 1) := by decide +kernel
set_option maxRecDepth 100000 in
theorem dX12_store_24 : decode cX12_store 24 = .ok (.aload_n 3, 1) := by decide +kernel
set_option maxRecDepth 100000 in
theorem dX12_store_25 : decode cX12_store 25 = .ok (.iload 4, 2) := by decide +kernel
set_option maxRecDepth 100000 in
theorem dX12_store_27 : decode cX12_store 27 = .ok (.invokevirtual 1168, 3) := by decide +kernel
set_option maxRecDepth 100000 in
theorem dX12_store_30 : decode cX12_store 30 = .ok (.aload_n 0, 1) := by decide +kernel
set_option maxRecDepth 100000 in
theorem dX12_store_31 : decode cX12_store 31 = .ok (.getfield 1121, 3) := by decide +kernel
set_option maxRecDepth 100000 in
theorem dX12_store_34 : decode cX12_store 34 = .ok (.ifCond .ne 8, 3) := by decide +kernel
set_option maxRecDepth 100000 in
theorem dX12_store_37 : decode cX12_store 37 = .ok (.aload_n 0, 1) := by decide +kernel
set_option maxRecDepth 100000 in
theorem dX12_store_38 : decode cX12_store 38 = .ok (.iload_n 1, 1) := by decide +kernel
set_option maxRecDepth 100000 in
theorem dX12_store_39 : decode cX12_store 39 = .ok (.invokevirtual 1172, 3) := by decide +kernel
set_option maxRecDepth 100000 in
theorem dX12_store_42 : decode cX12_store 42 = .ok (.return_, 1) := by decide +kernel
set_option maxRecDepth 100000 in
def bX12_store_42 (G : xG) (fr lo : Nat) (h : xH) (Q : Outcome → xH → Prop) : Prop := Q (.returned none) h
set_option maxRecDepth 100000 in
theorem uX12_store_42 {G : xG} {fr lo : Nat} {h : xH} {Q : Outcome → xH → Prop} (hq : bX12_store_42 G fr lo h Q) : xP G YX12_store fr lo 42 [] [] h Q := by
  unfold bX12_store_42 at hq
  exact x_vret rfl dX12_store_42 hq
set_option maxRecDepth 100000 in
def bX12_store (G : xG) (fr lo : Nat) (x0 : Nat) (x1 : Int32) (x2 : Nat) (x3 : Nat) (x4 : Int32) (h : xH) (Q : Outcome → xH → Prop) : Prop := tg h x3 = 14 ∧ 1 ≤ fr ∧ 12 ≤ lo ∧ xRi G YX13_isKept (fr - 1) (lo - 12) [rv x3] h (fun x5 h4 => xext h h4 → ((x5 = 0 → tg h4 x0 = 13 ∧ 1 ≤ fr ∧ 15 ≤ lo ∧ xRv G YX12_suit (fr - 1) (lo - 15) [rv x0, rv x2, rv x3, .int x4] h4 (fun h11 => xext h4 h11 → ((¬ (fI h11 x0 3170) = 0 → bX12_store_42 G fr lo h11 Q) ∧ ((fI h11 x0 3170) = 0 → 1 ≤ fr ∧ 13 ≤ lo ∧ xRv G YX12_keep (fr - 1) (lo - 13) [rv x0, .int x1] h11 (fun h18 => xext h11 h18 → bX12_store_42 G fr lo h18 Q) (fun r h2 => Q (.threw r) h2)))) (fun r h2 => Q (.threw r) h2)) ∧ (¬ x5 = 0 → tg h4 x0 = 13 ∧ 1 ≤ fr ∧ 17 ≤ lo ∧ xRv G YX12_copy (fr - 1) (lo - 17) [rv x0, .int (fI h4 x0 3180), .int x1, .int (Int64.toInt32 (fJ h4 x3 3334))] h4 (fun h25 => xext h4 h25 → Q (.returned none) h25) (fun r h2 => Q (.threw r) h2)))) (fun r h2 => Q (.threw r) h2)
set_option maxRecDepth 100000 in
theorem uX12_store {G : xG} {fr lo : Nat} {x0 : Nat} {x1 : Int32} {x2 : Nat} {x3 : Nat} {x4 : Int32} {h : xH} {Q : Outcome → xH → Prop} (hq : bX12_store G fr lo x0 x1 x2 x3 x4 h Q) : xP G YX12_store fr lo 0 [(0, rv x0), (1, .int x1), (2, rv x2), (3, rv x3), (4, .int x4)] [] h Q := by
  unfold bX12_store at hq
  refine x_aload_n 3 dX12_store_0 rfl ?_
  obtain ⟨g1, hq⟩ := hq
  obtain ⟨g2, g3, hq⟩ := hq
  refine x_callV (Yc := YX13_isKept) (as := []) (st := []) q4627 mvX13_isKept g1 rfl dX12_store_1 (xle (xal1 (rv_cat _) xal0) (by decide)) (xfr g2) (xlo xsw0 (by decide) g3) (xKi hq (fun x5 h4 hq e6 => ?_) (fun _ _ q _ => q))
  replace hq := hq e6
  refine x_if_eq (tgt := 22) dX12_store_4 (by decide) (fun c7 => ?_) (fun c7 => ?_)
  · replace hq := hq.1 c7
    refine x_aload_n 0 dX12_store_22 rfl ?_
    refine x_aload_n 2 dX12_store_23 rfl ?_
    refine x_aload_n 3 dX12_store_24 rfl ?_
    refine x_iload 4 dX12_store_25 rfl ?_
    obtain ⟨g8, hq⟩ := hq
    obtain ⟨g9, g10, hq⟩ := hq
    refine x_callV (Yc := YX12_suit) (as := [rv x2, rv x3, .int x4]) (st := []) q4631 mvX12_suit g8 rfl dX12_store_27 (xle (xal1 (rv_cat _) (xal1 (rv_cat _) (xal1 (rv_cat _) (xal1 rfl xal0)))) (by decide)) (xfr g9) (xlo xsw0 (by decide) g10) (xKv hq (fun h11 hq e13 => ?_) (fun _ _ q _ => q))
    replace hq := hq e13
    refine x_aload_n 0 dX12_store_30 rfl ?_
    have t14 : tg h11 x0 = 13 := e13.tg g8 (by decide)
    refine x_get (v := .int (fI h11 x0 3170)) fdX12_1121 dX12_store_31 t14 rfl ?_
    refine x_if_ne (tgt := 42) dX12_store_34 (by decide) (fun c15 => ?_) (fun c15 => ?_)
    · replace hq := hq.1 c15
      refine xP.pick (lv' := []) [] rfl ?_
      exact uX12_store_42 hq
    · replace hq := hq.2 c15
      refine x_aload_n 0 dX12_store_37 rfl ?_
      refine x_iload_n 1 dX12_store_38 rfl ?_
      obtain ⟨g16, g17, hq⟩ := hq
      refine x_callV (Yc := YX12_keep) (as := [.int x1]) (st := []) q4717 mvX12_keep t14 rfl dX12_store_39 (xle (xal1 (rv_cat _) (xal1 rfl xal0)) (by decide)) (xfr g16) (xlo xsw0 (by decide) g17) (xKv hq (fun h18 hq e20 => ?_) (fun _ _ q _ => q))
      replace hq := hq e20
      refine xP.pick (lv' := []) [] rfl ?_
      exact uX12_store_42 hq
  · replace hq := hq.2 c7
    refine x_aload_n 0 dX12_store_7 rfl ?_
    refine x_aload_n 0 dX12_store_8 rfl ?_
    obtain ⟨g21, hq⟩ := hq
    refine x_get (v := .int (fI h4 x0 3180)) fdX12_1136 dX12_store_9 g21 rfl ?_
    refine x_iload_n 1 dX12_store_12 rfl ?_
    refine x_aload_n 3 dX12_store_13 rfl ?_
    have t22 : tg h4 x3 = 14 := e6.tg g1 (by decide)
    refine x_get (v := .long (fJ h4 x3 3334)) fdX12_603 dX12_store_14 t22 rfl ?_
    refine x_l2i dX12_store_17 ?_
    obtain ⟨g23, g24, hq⟩ := hq
    refine x_callV (Yc := YX12_copy) (as := [.int (fI h4 x0 3180), .int x1, .int (Int64.toInt32 (fJ h4 x3 3334))]) (st := []) q4643 mvX12_copy g21 rfl dX12_store_18 (xle (xal1 (rv_cat _) (xal1 rfl (xal1 rfl (xal1 rfl xal0)))) (by decide)) (xfr g23) (xlo xsw0 (by decide) g24) (xKv hq (fun h25 hq e27 => ?_) (fun _ _ q _ => q))
    replace hq := hq e27
    exact x_vret rfl dX12_store_21 hq
theorem rX12_store {G : xG} {fr lo : Nat} {x0 : Nat} {x1 : Int32} {x2 : Nat} {x3 : Nat} {x4 : Int32} {h : xH} {Q : Outcome → xH → Prop} (hq : bX12_store G fr lo x0 x1 x2 x3 x4 h Q) : xR G YX12_store fr lo [rv x0, .int x1, rv x2, rv x3, .int x4] h Q := by
  show xP _ _ _ _ _ (lv_args 0 _) _ _ _
  rw [show lv_args 0 [rv x0, .int x1, rv x2, rv x3, .int x4] = [(0, rv x0), (1, .int x1), (2, rv x2), (3, rv x3), (4, .int x4)] from (xla1 (rv_cat _) (xla1 rfl (xla1 (rv_cat _) (xla1 (rv_cat _) (xla1 rfl xla0)))))]
  exact uX12_store hq
set_option maxRecDepth 100000 in
theorem dX12_keep_0 : decode cX12_keep 0 = .ok (.aload_n 0, 1) := by decide +kernel
set_option maxRecDepth 100000 in
theorem dX12_keep_1 : decode cX12_keep 1 = .ok (.getfield 169, 3) := by decide +kernel
set_option maxRecDepth 100000 in
theorem dX12_keep_4 : decode cX12_keep 4 = .ok (.iload_n 1, 1) := by decide +kernel
set_option maxRecDepth 100000 in
theorem dX12_keep_5 : decode cX12_keep 5 = .ok (.iconst 1, 1) := by decide +kernel
set_option maxRecDepth 100000 in
theorem dX12_keep_6 : decode cX12_keep 6 = .ok (.bastore, 1) := by decide +kernel
set_option maxRecDepth 100000 in
theorem dX12_keep_7 : decode cX12_keep 7 = .ok (.aload_n 0, 1) := by decide +kernel
set_option maxRecDepth 100000 in
theorem dX12_keep_8 : decode cX12_keep 8 = .ok (.getfield 159, 3) := by decide +kernel
set_option maxRecDepth 100000 in
theorem dX12_keep_11 : decode cX12_keep 11 = .ok (.iload_n 1, 1) := by decide +kernel
set_option maxRecDepth 100000 in
theorem dX12_keep_12 : decode cX12_keep 12 = .ok (.aload_n 0, 1) := by decide +kernel
set_option maxRecDepth 100000 in
theorem dX12_keep_13 : decode cX12_keep 13 = .ok (.getfield 1145, 3) := by decide +kernel
set_option maxRecDepth 100000 in
theorem dX12_keep_16 : decode cX12_keep 16 = .ok (.lastore, 1) := by decide +kernel
set_option maxRecDepth 100000 in
theorem dX12_keep_17 : decode cX12_keep 17 = .ok (.aload_n 0, 1) := by decide +kernel
set_option maxRecDepth 100000 in
theorem dX12_keep_18 : decode cX12_keep 18 = .ok (.getfield 163, 3) := by decide +kernel
set_option maxRecDepth 100000 in
theorem dX12_keep_21 : decode cX12_keep 21 = .ok (.iload_n 1, 1) := by decide +kernel
set_option maxRecDepth 100000 in
theorem dX12_keep_22 : decode cX12_keep 22 = .ok (.aload_n 0, 1) := by decide +kernel
set_option maxRecDepth 100000 in
theorem dX12_keep_23 : decode cX12_keep 23 = .ok (.getfield 1148, 3) := by decide +kernel
set_option maxRecDepth 100000 in
theorem dX12_keep_26 : decode cX12_keep 26 = .ok (.lastore, 1) := by decide +kernel
set_option maxRecDepth 100000 in
theorem dX12_keep_27 : decode cX12_keep 27 = .ok (.aload_n 0, 1) := by decide +kernel
set_option maxRecDepth 100000 in
theorem dX12_keep_28 : decode cX12_keep 28 = .ok (.getfield 166, 3) := by decide +kernel
set_option maxRecDepth 100000 in
theorem dX12_keep_31 : decode cX12_keep 31 = .ok (.iload_n 1, 1) := by decide +kernel
set_option maxRecDepth 100000 in
theorem dX12_keep_32 : decode cX12_keep 32 = .ok (.aload_n 0, 1) := by decide +kernel
set_option maxRecDepth 100000 in
theorem dX12_keep_33 : decode cX12_keep 33 = .ok (.getfield 1151, 3) := by decide +kernel
set_option maxRecDepth 100000 in
theorem dX12_keep_36 : decode cX12_keep 36 = .ok (.dastore, 1) := by decide +kernel
set_option maxRecDepth 100000 in
theorem dX12_keep_37 : decode cX12_keep 37 = .ok (.return_, 1) := by decide +kernel
set_option maxRecDepth 100000 in
def bX12_keep (G : xG) (fr lo : Nat) (x0 : Nat) (x1 : Int32) (h : xH) (Q : Outcome → xH → Prop) : Prop := tg h x0 = 13 ∧ tg h (fR h x0 3150) = 104 ∧ vp_in x1 (ln h (fR h x0 3150)) ∧ (∀ h4 : xH, h4 = tI h (fR h x0 3150) (Int32.toNatClampNeg x1) (vp_nar .boolean 1) → tg h4 (fR h4 x0 3147) = 101 ∧ vp_in x1 (ln h4 (fR h4 x0 3147)) ∧ (∀ h9 : xH, h9 = tJ h4 (fR h4 x0 3147) (Int32.toNatClampNeg x1) (fJ h4 x0 3177) → tg h9 (fR h9 x0 3148) = 101 ∧ vp_in x1 (ln h9 (fR h9 x0 3148)) ∧ (∀ h14 : xH, h14 = tJ h9 (fR h9 x0 3148) (Int32.toNatClampNeg x1) (fJ h9 x0 3178) → tg h14 (fR h14 x0 3149) = 102 ∧ vp_in x1 (ln h14 (fR h14 x0 3149)) ∧ (∀ h19 : xH, h19 = tD h14 (fR h14 x0 3149) (Int32.toNatClampNeg x1) (fD h14 x0 3179) → Q (.returned none) h19))))
set_option maxRecDepth 100000 in
theorem uX12_keep {G : xG} {fr lo : Nat} {x0 : Nat} {x1 : Int32} {h : xH} {Q : Outcome → xH → Prop} (hq : bX12_keep G fr lo x0 x1 h Q) : xP G YX12_keep fr lo 0 [(0, rv x0), (1, .int x1)] [] h Q := by
  unfold bX12_keep at hq
  refine x_aload_n 0 dX12_keep_0 rfl ?_
  obtain ⟨g1, hq⟩ := hq
  refine x_get (v := rv (fR h x0 3150)) fdX12_169 dX12_keep_1 g1 rfl ?_
  refine x_iload_n 1 dX12_keep_4 rfl ?_
  refine x_iconst (v := 1) dX12_keep_5 (by decide) ?_
  obtain ⟨g2, hq⟩ := hq
  obtain ⟨i3, hq⟩ := hq
  obtain ⟨h4, e5⟩ : ∃ y, y = tI h (fR h x0 3150) (Int32.toNatClampNeg x1) (vp_nar .boolean 1) := ⟨_, rfl⟩
  replace hq := hq h4 e5
  refine x_zast' g2 i3 dX12_keep_6 e5 ?_
  refine x_aload_n 0 dX12_keep_7 rfl ?_
  have t6 : tg h4 x0 = 13 := by rw [e5]; exact g1
  refine x_get (v := rv (fR h4 x0 3147)) fdX12_159 dX12_keep_8 t6 rfl ?_
  refine x_iload_n 1 dX12_keep_11 rfl ?_
  refine x_aload_n 0 dX12_keep_12 rfl ?_
  refine x_get (v := .long (fJ h4 x0 3177)) fdX12_1145 dX12_keep_13 t6 rfl ?_
  obtain ⟨g7, hq⟩ := hq
  obtain ⟨i8, hq⟩ := hq
  obtain ⟨h9, e10⟩ : ∃ y, y = tJ h4 (fR h4 x0 3147) (Int32.toNatClampNeg x1) (fJ h4 x0 3177) := ⟨_, rfl⟩
  replace hq := hq h9 e10
  refine x_last' g7 i8 dX12_keep_16 e10 ?_
  refine x_aload_n 0 dX12_keep_17 rfl ?_
  have t11 : tg h9 x0 = 13 := by rw [e10]; exact t6
  refine x_get (v := rv (fR h9 x0 3148)) fdX12_163 dX12_keep_18 t11 rfl ?_
  refine x_iload_n 1 dX12_keep_21 rfl ?_
  refine x_aload_n 0 dX12_keep_22 rfl ?_
  refine x_get (v := .long (fJ h9 x0 3178)) fdX12_1148 dX12_keep_23 t11 rfl ?_
  obtain ⟨g12, hq⟩ := hq
  obtain ⟨i13, hq⟩ := hq
  obtain ⟨h14, e15⟩ : ∃ y, y = tJ h9 (fR h9 x0 3148) (Int32.toNatClampNeg x1) (fJ h9 x0 3178) := ⟨_, rfl⟩
  replace hq := hq h14 e15
  refine x_last' g12 i13 dX12_keep_26 e15 ?_
  refine x_aload_n 0 dX12_keep_27 rfl ?_
  have t16 : tg h14 x0 = 13 := by rw [e15]; exact t11
  refine x_get (v := rv (fR h14 x0 3149)) fdX12_166 dX12_keep_28 t16 rfl ?_
  refine x_iload_n 1 dX12_keep_31 rfl ?_
  refine x_aload_n 0 dX12_keep_32 rfl ?_
  refine x_get (v := .double (fD h14 x0 3179)) fdX12_1151 dX12_keep_33 t16 rfl ?_
  obtain ⟨g17, hq⟩ := hq
  obtain ⟨i18, hq⟩ := hq
  obtain ⟨h19, e20⟩ : ∃ y, y = tD h14 (fR h14 x0 3149) (Int32.toNatClampNeg x1) (fD h14 x0 3179) := ⟨_, rfl⟩
  replace hq := hq h19 e20
  refine x_dast' g17 i18 dX12_keep_36 e20 ?_
  exact x_vret rfl dX12_keep_37 hq
theorem rX12_keep {G : xG} {fr lo : Nat} {x0 : Nat} {x1 : Int32} {h : xH} {Q : Outcome → xH → Prop} (hq : bX12_keep G fr lo x0 x1 h Q) : xR G YX12_keep fr lo [rv x0, .int x1] h Q := by
  show xP _ _ _ _ _ (lv_args 0 _) _ _ _
  rw [show lv_args 0 [rv x0, .int x1] = [(0, rv x0), (1, .int x1)] from (xla1 (rv_cat _) (xla1 rfl xla0))]
  exact uX12_keep hq
set_option maxRecDepth 100000 in
theorem dX12_work_0 : decode cX12_work 0 = .ok (.iload_n 2, 1) := by decide +kernel
set_option maxRecDepth 100000 in
theorem dX12_work_1 : decode cX12_work 1 = .ok (.iconst 2, 1) := by decide +kernel
set_option maxRecDepth 100000 in
theorem dX12_work_2 : decode cX12_work 2 = .ok (.if_icmp .gt 10, 3) := by decide +kernel
set_option maxRecDepth 100000 in
theorem dX12_work_5 : decode cX12_work 5 = .ok (.aload_n 0, 1) := by decide +kernel
set_option maxRecDepth 100000 in
theorem dX12_work_6 : decode cX12_work 6 = .ok (.iload_n 1, 1) := by decide +kernel
set_option maxRecDepth 100000 in
theorem dX12_work_7 : decode cX12_work 7 = .ok (.iload_n 2, 1) := by decide +kernel
set_option maxRecDepth 100000 in
theorem dX12_work_8 : decode cX12_work 8 = .ok (.invokevirtual 1415, 3) := by decide +kernel
set_option maxRecDepth 100000 in
theorem dX12_work_11 : decode cX12_work 11 = .ok (.return_, 1) := by decide +kernel
set_option maxRecDepth 100000 in
theorem dX12_work_12 : decode cX12_work 12 = .ok (.iload_n 2, 1) := by decide +kernel
set_option maxRecDepth 100000 in
theorem dX12_work_13 : decode cX12_work 13 = .ok (.iconst 4, 1) := by decide +kernel
set_option maxRecDepth 100000 in
theorem dX12_work_14 : decode cX12_work 14 = .ok (.if_icmp .gt 10, 3) := by decide +kernel
set_option maxRecDepth 100000 in
theorem dX12_work_17 : decode cX12_work 17 = .ok (.aload_n 0, 1) := by decide +kernel
set_option maxRecDepth 100000 in
theorem dX12_work_18 : decode cX12_work 18 = .ok (.iload_n 1, 1) := by decide +kernel
set_option maxRecDepth 100000 in
theorem dX12_work_19 : decode cX12_work 19 = .ok (.iload_n 2, 1) := by decide +kernel
set_option maxRecDepth 100000 in
theorem dX12_work_20 : decode cX12_work 20 = .ok (.invokevirtual 1418, 3) := by decide +kernel
set_option maxRecDepth 100000 in
theorem dX12_work_23 : decode cX12_work 23 = .ok (.return_, 1) := by decide +kernel
set_option maxRecDepth 100000 in
theorem dX12_work_24 : decode cX12_work 24 = .ok (.aload_n 0, 1) := by decide +kernel
set_option maxRecDepth 100000 in
theorem dX12_work_25 : decode cX12_work 25 = .ok (.getfield 73, 3) := by decide +kernel
set_option maxRecDepth 100000 in
theorem dX12_work_28 : decode cX12_work 28 = .ok (.aload_n 0, 1) := by decide +kernel
set_option maxRecDepth 100000 in
theorem dX12_work_29 : decode cX12_work 29 = .ok (.getfield 73, 3) := by decide +kernel
set_option maxRecDepth 100000 in
theorem dX12_work_32 : decode cX12_work 32 = .ok (.iload_n 1, 1) := by decide +kernel
set_option maxRecDepth 100000 in
theorem dX12_work_33 : decode cX12_work 33 = .ok (.iaload, 1) := by decide +kernel
set_option maxRecDepth 100000 in
theorem dX12_work_34 : decode cX12_work 34 = .ok (.iaload, 1) := by decide +kernel
set_option maxRecDepth 100000 in
theorem dX12_work_35 : decode cX12_work 35 = .ok (.istore_n 3, 1) := by decide +kernel
set_option maxRecDepth 100000 in
theorem dX12_work_36 : decode cX12_work 36 = .ok (.iload_n 2, 1) := by decide +kernel
set_option maxRecDepth 100000 in
theorem dX12_work_37 : decode cX12_work 37 = .ok (.bipush 8, 2) := by decide +kernel
set_option maxRecDepth 100000 in
theorem dX12_work_39 : decode cX12_work 39 = .ok (.if_icmp .gt 90, 3) := by decide +kernel
set_option maxRecDepth 100000 in
theorem dX12_work_42 : decode cX12_work 42 = .ok (.aload_n 0, 1) := by decide +kernel
set_option maxRecDepth 100000 in
theorem dX12_work_43 : decode cX12_work 43 = .ok (.aload_n 0, 1) := by decide +kernel
set_option maxRecDepth 100000 in
theorem dX12_work_44 : decode cX12_work 44 = .ok (.getfield 102, 3) := by decide +kernel
set_option maxRecDepth 100000 in
theorem dX12_work_47 : decode cX12_work 47 = .ok (.aload_n 0, 1) := by decide +kernel
set_option maxRecDepth 100000 in
theorem dX12_work_48 : decode cX12_work 48 = .ok (.iload_n 3, 1) := by decide +kernel
set_option maxRecDepth 100000 in
theorem dX12_work_49 : decode cX12_work 49 = .ok (.invokevirtual 1022, 3) := by decide +kernel
set_option maxRecDepth 100000 in
theorem dX12_work_52 : decode cX12_work 52 = .ok (.aaload, 1) := by decide +kernel
set_option maxRecDepth 100000 in
theorem dX12_work_53 : decode cX12_work 53 = .ok (.invokevirtual 1304, 3) := by decide +kernel
set_option maxRecDepth 100000 in
theorem dX12_work_56 : decode cX12_work 56 = .ok (.istore 4, 2) := by decide +kernel
set_option maxRecDepth 100000 in
theorem dX12_work_58 : decode cX12_work 58 = .ok (.iload_n 2, 1) := by decide +kernel
set_option maxRecDepth 100000 in
theorem dX12_work_59 : decode cX12_work 59 = .ok (.iconst 5, 1) := by decide +kernel
set_option maxRecDepth 100000 in
theorem dX12_work_60 : decode cX12_work 60 = .ok (.if_icmp .ne 18, 3) := by decide +kernel
set_option maxRecDepth 100000 in
theorem dX12_work_63 : decode cX12_work 63 = .ok (.aload_n 0, 1) := by decide +kernel
set_option maxRecDepth 100000 in
theorem dX12_work_64 : decode cX12_work 64 = .ok (.iload 4, 2) := by decide +kernel
set_option maxRecDepth 100000 in
theorem dX12_work_66 : decode cX12_work 66 = .ok (.aload_n 0, 1) := by decide +kernel
set_option maxRecDepth 100000 in
theorem dX12_work_67 : decode cX12_work 67 = .ok (.getfield 70, 3) := by decide +kernel
set_option maxRecDepth 100000 in
theorem dX12_work_70 : decode cX12_work 70 = .ok (.iload_n 1, 1) := by decide +kernel
set_option maxRecDepth 100000 in
theorem dX12_work_71 : decode cX12_work 71 = .ok (.iaload, 1) := by decide +kernel
set_option maxRecDepth 100000 in
theorem dX12_work_72 : decode cX12_work 72 = .ok (.invokevirtual 1421, 3) := by decide +kernel
set_option maxRecDepth 100000 in
theorem dX12_work_75 : decode cX12_work 75 = .ok (.goto 51, 3) := by decide +kernel
set_option maxRecDepth 100000 in
theorem dX12_work_78 : decode cX12_work 78 = .ok (.iload_n 2, 1) := by decide +kernel
set_option maxRecDepth 100000 in
theorem dX12_work_79 : decode cX12_work 79 = .ok (.bipush 6, 2) := by decide +kernel
set_option maxRecDepth 100000 in
theorem dX12_work_81 : decode cX12_work 81 = .ok (.if_icmp .ne 12, 3) := by decide +kernel
set_option maxRecDepth 100000 in
theorem dX12_work_84 : decode cX12_work 84 = .ok (.aload_n 0, 1) := by decide +kernel
set_option maxRecDepth 100000 in
theorem dX12_work_85 : decode cX12_work 85 = .ok (.iload 4, 2) := by decide +kernel
set_option maxRecDepth 100000 in
theorem dX12_work_87 : decode cX12_work 87 = .ok (.invokevirtual 1423, 3) := by decide +kernel
set_option maxRecDepth 100000 in
theorem dX12_work_90 : decode cX12_work 90 = .ok (.goto 36, 3) := by decide +kernel
set_option maxRecDepth 100000 in
theorem dX12_work_93 : decode cX12_work 93 = .ok (.iload_n 2, 1) := by decide +kernel
set_option maxRecDepth 100000 in
theorem dX12_work_94 : decode cX12_work 94 = .ok (.bipush 7, 2) := by decide +kernel
set_option maxRecDepth 100000 in
theorem dX12_work_96 : decode cX12_work 96 = .ok (.if_icmp .ne 18, 3) := by decide +kernel
set_option maxRecDepth 100000 in
theorem dX12_work_99 : decode cX12_work 99 = .ok (.aload_n 0, 1) := by decide +kernel
set_option maxRecDepth 100000 in
theorem dX12_work_100 : decode cX12_work 100 = .ok (.iload 4, 2) := by decide +kernel
set_option maxRecDepth 100000 in
theorem dX12_work_102 : decode cX12_work 102 = .ok (.aload_n 0, 1) := by decide +kernel
set_option maxRecDepth 100000 in
theorem dX12_work_103 : decode cX12_work 103 = .ok (.getfield 70, 3) := by decide +kernel
set_option maxRecDepth 100000 in
theorem dX12_work_106 : decode cX12_work 106 = .ok (.iload_n 1, 1) := by decide +kernel
set_option maxRecDepth 100000 in
theorem dX12_work_107 : decode cX12_work 107 = .ok (.iaload, 1) := by decide +kernel
set_option maxRecDepth 100000 in
theorem dX12_work_108 : decode cX12_work 108 = .ok (.invokevirtual 1425, 3) := by decide +kernel
set_option maxRecDepth 100000 in
theorem dX12_work_111 : decode cX12_work 111 = .ok (.goto 15, 3) := by decide +kernel
set_option maxRecDepth 100000 in
theorem dX12_work_114 : decode cX12_work 114 = .ok (.aload_n 0, 1) := by decide +kernel
set_option maxRecDepth 100000 in
theorem dX12_work_115 : decode cX12_work 115 = .ok (.iload 4, 2) := by decide +kernel
set_option maxRecDepth 100000 in
theorem dX12_work_117 : decode cX12_work 117 = .ok (.aload_n 0, 1) := by decide +kernel
set_option maxRecDepth 100000 in
theorem dX12_work_118 : decode cX12_work 118 = .ok (.getfield 70, 3) := by decide +kernel
set_option maxRecDepth 100000 in
theorem dX12_work_121 : decode cX12_work 121 = .ok (.iload_n 1, 1) := by decide +kernel
set_option maxRecDepth 100000 in
theorem dX12_work_122 : decode cX12_work 122 = .ok (.iaload, 1) := by decide +kernel
set_option maxRecDepth 100000 in
theorem dX12_work_123 : decode cX12_work 123 = .ok (.invokevirtual 1427, 3) := by decide +kernel
set_option maxRecDepth 100000 in
theorem dX12_work_126 : decode cX12_work 126 = .ok (.goto 116, 3) := by decide +kernel
set_option maxRecDepth 100000 in
theorem dX12_work_129 : decode cX12_work 129 = .ok (.iload_n 2, 1) := by decide +kernel
set_option maxRecDepth 100000 in
theorem dX12_work_130 : decode cX12_work 130 = .ok (.bipush 9, 2) := by decide +kernel
set_option maxRecDepth 100000 in
theorem dX12_work_132 : decode cX12_work 132 = .ok (.if_icmp .ne 21, 3) := by decide +kernel
set_option maxRecDepth 100000 in
theorem dX12_work_135 : decode cX12_work 135 = .ok (.aload_n 0, 1) := by decide +kernel
set_option maxRecDepth 100000 in
theorem dX12_work_136 : decode cX12_work 136 = .ok (.aload_n 0, 1) := by decide +kernel
set_option maxRecDepth 100000 in
theorem dX12_work_137 : decode cX12_work 137 = .ok (.iload_n 3, 1) := by decide +kernel
set_option maxRecDepth 100000 in
theorem dX12_work_138 : decode cX12_work 138 = .ok (.invokevirtual 1022, 3) := by decide +kernel
set_option maxRecDepth 100000 in
theorem dX12_work_141 : decode cX12_work 141 = .ok (.aload_n 0, 1) := by decide +kernel
set_option maxRecDepth 100000 in
theorem dX12_work_142 : decode cX12_work 142 = .ok (.getfield 70, 3) := by decide +kernel
set_option maxRecDepth 100000 in
theorem dX12_work_145 : decode cX12_work 145 = .ok (.iload_n 1, 1) := by decide +kernel
set_option maxRecDepth 100000 in
theorem dX12_work_146 : decode cX12_work 146 = .ok (.iaload, 1) := by decide +kernel
set_option maxRecDepth 100000 in
theorem dX12_work_147 : decode cX12_work 147 = .ok (.invokevirtual 1430, 3) := by decide +kernel
set_option maxRecDepth 100000 in
theorem dX12_work_150 : decode cX12_work 150 = .ok (.goto 92, 3) := by decide +kernel
set_option maxRecDepth 100000 in
theorem dX12_work_153 : decode cX12_work 153 = .ok (.aload_n 0, 1) := by decide +kernel
set_option maxRecDepth 100000 in
theorem dX12_work_154 : decode cX12_work 154 = .ok (.iload_n 3, 1) := by decide +kernel
set_option maxRecDepth 100000 in
theorem dX12_work_155 : decode cX12_work 155 = .ok (.invokevirtual 1233, 3) := by decide +kernel
set_option maxRecDepth 100000 in
theorem dX12_work_158 : decode cX12_work 158 = .ok (.aload_n 0, 1) := by decide +kernel
set_option maxRecDepth 100000 in
theorem dX12_work_159 : decode cX12_work 159 = .ok (.getfield 1121, 3) := by decide +kernel
set_option maxRecDepth 100000 in
theorem dX12_work_162 : decode cX12_work 162 = .ok (.ifCond .eq 4, 3) := by decide +kernel
set_option maxRecDepth 100000 in
theorem dX12_work_165 : decode cX12_work 165 = .ok (.return_, 1) := by decide +kernel
set_option maxRecDepth 100000 in
theorem dX12_work_166 : decode cX12_work 166 = .ok (.aload_n 0, 1) := by decide +kernel
set_option maxRecDepth 100000 in
theorem dX12_work_167 : decode cX12_work 167 = .ok (.getfield 1145, 3) := by decide +kernel
set_option maxRecDepth 100000 in
theorem dX12_work_170 : decode cX12_work 170 = .ok (.lconst 0, 1) := by decide +kernel
set_option maxRecDepth 100000 in
theorem dX12_work_171 : decode cX12_work 171 = .ok (.lcmp, 1) := by decide +kernel
set_option maxRecDepth 100000 in
theorem dX12_work_172 : decode cX12_work 172 = .ok (.ifCond .ne 17, 3) := by decide +kernel
set_option maxRecDepth 100000 in
theorem dX12_work_175 : decode cX12_work 175 = .ok (.aload_n 0, 1) := by decide +kernel
set_option maxRecDepth 100000 in
theorem dX12_work_176 : decode cX12_work 176 = .ok (.iconst 3, 1) := by decide +kernel
set_option maxRecDepth 100000 in
theorem dX12_work_177 : decode cX12_work 177 = .ok (.aload_n 0, 1) := by decide +kernel
set_option maxRecDepth 100000 in
theorem dX12_work_178 : decode cX12_work 178 = .ok (.getfield 70, 3) := by decide +kernel
set_option maxRecDepth 100000 in
theorem dX12_work_181 : decode cX12_work 181 = .ok (.iload_n 1, 1) := by decide +kernel
set_option maxRecDepth 100000 in
theorem dX12_work_182 : decode cX12_work 182 = .ok (.iaload, 1) := by decide +kernel
set_option maxRecDepth 100000 in
theorem dX12_work_183 : decode cX12_work 183 = .ok (.invokevirtual 1142, 3) := by decide +kernel
set_option maxRecDepth 100000 in
theorem dX12_work_186 : decode cX12_work 186 = .ok (.goto 27, 3) := by decide +kernel
set_option maxRecDepth 100000 in
theorem dX12_work_189 : decode cX12_work 189 = .ok (.aload_n 0, 1) := by decide +kernel
set_option maxRecDepth 100000 in
theorem dX12_work_190 : decode cX12_work 190 = .ok (.getfield 176, 3) := by decide +kernel
set_option maxRecDepth 100000 in
theorem dX12_work_193 : decode cX12_work 193 = .ok (.aload_n 0, 1) := by decide +kernel
set_option maxRecDepth 100000 in
theorem dX12_work_194 : decode cX12_work 194 = .ok (.getfield 1145, 3) := by decide +kernel
set_option maxRecDepth 100000 in
theorem dX12_work_197 : decode cX12_work 197 = .ok (.l2i, 1) := by decide +kernel
set_option maxRecDepth 100000 in
theorem dX12_work_198 : decode cX12_work 198 = .ok (.baload, 1) := by decide +kernel
set_option maxRecDepth 100000 in
theorem dX12_work_199 : decode cX12_work 199 = .ok (.ifCond .eq 14, 3) := by decide +kernel
set_option maxRecDepth 100000 in
theorem dX12_work_202 : decode cX12_work 202 = .ok (.aload_n 0, 1) := by decide +kernel
set_option maxRecDepth 100000 in
theorem dX12_work_203 : decode cX12_work 203 = .ok (.iconst 4, 1) := by decide +kernel
set_option maxRecDepth 100000 in
theorem dX12_work_204 : decode cX12_work 204 = .ok (.aload_n 0, 1) := by decide +kernel
set_option maxRecDepth 100000 in
theorem dX12_work_205 : decode cX12_work 205 = .ok (.getfield 70, 3) := by decide +kernel
set_option maxRecDepth 100000 in
theorem dX12_work_208 : decode cX12_work 208 = .ok (.iload_n 1, 1) := by decide +kernel
set_option maxRecDepth 100000 in
theorem dX12_work_209 : decode cX12_work 209 = .ok (.iaload, 1) := by decide +kernel
set_option maxRecDepth 100000 in
theorem dX12_work_210 : decode cX12_work 210 = .ok (.invokevirtual 1142, 3) := by decide +kernel
set_option maxRecDepth 100000 in
theorem dX12_work_213 : decode cX12_work 213 = .ok (.aload_n 0, 1) := by decide +kernel
set_option maxRecDepth 100000 in
theorem dX12_work_214 : decode cX12_work 214 = .ok (.getfield 1121, 3) := by decide +kernel
set_option maxRecDepth 100000 in
theorem dX12_work_217 : decode cX12_work 217 = .ok (.ifCond .eq 4, 3) := by decide +kernel
set_option maxRecDepth 100000 in
theorem dX12_work_220 : decode cX12_work 220 = .ok (.return_, 1) := by decide +kernel
set_option maxRecDepth 100000 in
theorem dX12_work_221 : decode cX12_work 221 = .ok (.aload_n 0, 1) := by decide +kernel
set_option maxRecDepth 100000 in
theorem dX12_work_222 : decode cX12_work 222 = .ok (.getfield 176, 3) := by decide +kernel
set_option maxRecDepth 100000 in
theorem dX12_work_225 : decode cX12_work 225 = .ok (.aload_n 0, 1) := by decide +kernel
set_option maxRecDepth 100000 in
theorem dX12_work_226 : decode cX12_work 226 = .ok (.getfield 1145, 3) := by decide +kernel
set_option maxRecDepth 100000 in
theorem dX12_work_229 : decode cX12_work 229 = .ok (.l2i, 1) := by decide +kernel
set_option maxRecDepth 100000 in
theorem dX12_work_230 : decode cX12_work 230 = .ok (.iconst 1, 1) := by decide +kernel
set_option maxRecDepth 100000 in
theorem dX12_work_231 : decode cX12_work 231 = .ok (.bastore, 1) := by decide +kernel
set_option maxRecDepth 100000 in
theorem dX12_work_232 : decode cX12_work 232 = .ok (.aload_n 0, 1) := by decide +kernel
set_option maxRecDepth 100000 in
theorem dX12_work_233 : decode cX12_work 233 = .ok (.dup, 1) := by decide +kernel
set_option maxRecDepth 100000 in
theorem dX12_work_234 : decode cX12_work 234 = .ok (.getfield 1433, 3) := by decide +kernel
set_option maxRecDepth 100000 in
theorem dX12_work_237 : decode cX12_work 237 = .ok (.iconst 1, 1) := by decide +kernel
set_option maxRecDepth 100000 in
theorem dX12_work_238 : decode cX12_work 238 = .ok (.isub, 1) := by decide +kernel
set_option maxRecDepth 100000 in
theorem dX12_work_239 : decode cX12_work 239 = .ok (.putfield 1433, 3) := by decide +kernel
set_option maxRecDepth 100000 in
theorem dX12_work_242 : decode cX12_work 242 = .ok (.return_, 1) := by decide +kernel
set_option maxRecDepth 100000 in
def bX12_work_242 (G : xG) (fr lo : Nat) (h : xH) (Q : Outcome → xH → Prop) : Prop := Q (.returned none) h
set_option maxRecDepth 100000 in
theorem uX12_work_242 {G : xG} {fr lo : Nat} {h : xH} {Q : Outcome → xH → Prop} (hq : bX12_work_242 G fr lo h Q) : xP G YX12_work fr lo 242 [] [] h Q := by
  unfold bX12_work_242 at hq
  exact x_vret rfl dX12_work_242 hq
set_option maxRecDepth 100000 in
def bX12_work_213 (G : xG) (fr lo : Nat) (x0 : Nat) (h : xH) (Q : Outcome → xH → Prop) : Prop := tg h x0 = 13 ∧ (((fI h x0 3170) = 0 → tg h (fR h x0 3155) = 104 ∧ vp_in (Int64.toInt32 (fJ h x0 3177)) (ln h (fR h x0 3155)) ∧ (∀ h5 : xH, h5 = tI h (fR h x0 3155) (Int32.toNatClampNeg (Int64.toInt32 (fJ h x0 3177))) (vp_nar .boolean 1) → (∀ h8 : xH, h8 = sI h5 x0 3157 ((fI h5 x0 3157) - 1) → bX12_work_242 G fr lo h8 Q))) ∧ (¬ (fI h x0 3170) = 0 → Q (.returned none) h))
set_option maxRecDepth 100000 in
theorem uX12_work_213 {G : xG} {fr lo : Nat} {x0 : Nat} {h : xH} {Q : Outcome → xH → Prop} (hq : bX12_work_213 G fr lo x0 h Q) : xP G YX12_work fr lo 213 [(0, rv x0)] [] h Q := by
  unfold bX12_work_213 at hq
  refine x_aload_n 0 dX12_work_213 rfl ?_
  obtain ⟨g1, hq⟩ := hq
  refine x_get (v := .int (fI h x0 3170)) fdX12_1121 dX12_work_214 g1 rfl ?_
  refine x_if_eq (tgt := 221) dX12_work_217 (by decide) (fun c2 => ?_) (fun c2 => ?_)
  · replace hq := hq.1 c2
    refine x_aload_n 0 dX12_work_221 rfl ?_
    refine x_get (v := rv (fR h x0 3155)) fdX12_176 dX12_work_222 g1 rfl ?_
    refine x_aload_n 0 dX12_work_225 rfl ?_
    refine x_get (v := .long (fJ h x0 3177)) fdX12_1145 dX12_work_226 g1 rfl ?_
    refine x_l2i dX12_work_229 ?_
    refine x_iconst (v := 1) dX12_work_230 (by decide) ?_
    obtain ⟨g3, hq⟩ := hq
    obtain ⟨i4, hq⟩ := hq
    obtain ⟨h5, e6⟩ : ∃ y, y = tI h (fR h x0 3155) (Int32.toNatClampNeg (Int64.toInt32 (fJ h x0 3177))) (vp_nar .boolean 1) := ⟨_, rfl⟩
    replace hq := hq h5 e6
    refine x_zast' g3 i4 dX12_work_231 e6 ?_
    refine x_aload_n 0 dX12_work_232 rfl ?_
    refine x_dup dX12_work_233 (rv_cat _) ?_
    have t7 : tg h5 x0 = 13 := by rw [e6]; exact g1
    refine x_get (v := .int (fI h5 x0 3157)) fdX12_1433 dX12_work_234 t7 rfl ?_
    refine x_iconst (v := 1) dX12_work_237 (by decide) ?_
    refine x_isub dX12_work_238 ?_
    obtain ⟨h8, e9⟩ : ∃ y, y = sI h5 x0 3157 ((fI h5 x0 3157) - 1) := ⟨_, rfl⟩
    replace hq := hq h8 e9
    refine x_putI fdX12_1433 xty_I1 dX12_work_239 t7 (Or.inl (by rw [t7]; rfl)) xnI rfl e9 ?_
    refine xP.pick (lv' := []) [] rfl ?_
    exact uX12_work_242 hq
  · replace hq := hq.2 c2
    exact x_vret rfl dX12_work_220 hq
set_option maxRecDepth 100000 in
def bX12_work_126 (G : xG) (fr lo : Nat) (h : xH) (Q : Outcome → xH → Prop) : Prop := bX12_work_242 G fr lo h Q
set_option maxRecDepth 100000 in
theorem uX12_work_126 {G : xG} {fr lo : Nat} {h : xH} {Q : Outcome → xH → Prop} (hq : bX12_work_126 G fr lo h Q) : xP G YX12_work fr lo 126 [] [] h Q := by
  unfold bX12_work_126 at hq
  refine x_goto (tgt := 242) dX12_work_126 (by decide) ?_
  exact uX12_work_242 hq
set_option maxRecDepth 100000 in
def bX12_work (G : xG) (fr lo : Nat) (x0 : Nat) (x1 : Int32) (x2 : Int32) (h : xH) (Q : Outcome → xH → Prop) : Prop := ((2 < x2 → ((4 < x2 → tg h x0 = 13 ∧ tg h (fR h x0 3103) = 100 ∧ vp_in x1 (ln h (fR h x0 3103)) ∧ vp_in (aI h (fR h x0 3103) (Int32.toNatClampNeg x1)) (ln h (fR h x0 3103)) ∧ ((8 < x2 → ((¬ x2 = 9 → 1 ≤ fr ∧ 37 ≤ lo ∧ xRv G YX12_evaluate (fr - 1) (lo - 37) [rv x0, .int (aI h (fR h x0 3103) (Int32.toNatClampNeg (aI h (fR h x0 3103) (Int32.toNatClampNeg x1))))] h (fun h11 => xext h h11 → (((fI h11 x0 3170) = 0 → ((¬ (lg_cmp (fJ h11 x0 3177) 0) = 0 → tg h11 (fR h11 x0 3155) = 104 ∧ vp_in (Int64.toInt32 (fJ h11 x0 3177)) (ln h11 (fR h11 x0 3155)) ∧ (((aI h11 (fR h11 x0 3155) (Int32.toNatClampNeg (Int64.toInt32 (fJ h11 x0 3177)))) = 0 → bX12_work_213 G fr lo x0 h11 Q) ∧ (¬ (aI h11 (fR h11 x0 3155) (Int32.toNatClampNeg (Int64.toInt32 (fJ h11 x0 3177)))) = 0 → tg h11 (fR h11 x0 3102) = 100 ∧ vp_in x1 (ln h11 (fR h11 x0 3102)) ∧ 1 ≤ fr ∧ 14 ≤ lo ∧ xRv G YX12_error (fr - 1) (lo - 14) [rv x0, .int 4, .int (aI h11 (fR h11 x0 3102) (Int32.toNatClampNeg x1))] h11 (fun h24 => xext h11 h24 → bX12_work_213 G fr lo x0 h24 Q) (fun r h2 => Q (.threw r) h2)))) ∧ ((lg_cmp (fJ h11 x0 3177) 0) = 0 → tg h11 (fR h11 x0 3102) = 100 ∧ vp_in x1 (ln h11 (fR h11 x0 3102)) ∧ 1 ≤ fr ∧ 14 ≤ lo ∧ xRv G YX12_error (fr - 1) (lo - 14) [rv x0, .int 3, .int (aI h11 (fR h11 x0 3102) (Int32.toNatClampNeg x1))] h11 (fun h31 => xext h11 h31 → bX12_work_213 G fr lo x0 h31 Q) (fun r h2 => Q (.threw r) h2)))) ∧ (¬ (fI h11 x0 3170) = 0 → Q (.returned none) h11))) (fun r h2 => Q (.threw r) h2)) ∧ (x2 = 9 → 1 ≤ fr ∧ 16 ≤ lo ∧ xRi G YX12_loneVariable (fr - 1) (lo - 16) [rv x0, .int (aI h (fR h x0 3103) (Int32.toNatClampNeg (aI h (fR h x0 3103) (Int32.toNatClampNeg x1))))] h (fun x37 h36 => xext h h36 → tg h36 (fR h36 x0 3102) = 100 ∧ vp_in x1 (ln h36 (fR h36 x0 3102)) ∧ 1 ≤ fr ∧ 15 ≤ lo ∧ xRv G YX12_make (fr - 1) (lo - 15) [rv x0, .int x37, .int (aI h36 (fR h36 x0 3102) (Int32.toNatClampNeg x1))] h36 (fun h44 => xext h36 h44 → bX12_work_242 G fr lo h44 Q) (fun r h2 => Q (.threw r) h2)) (fun r h2 => Q (.threw r) h2)))) ∧ (¬ 8 < x2 → 1 ≤ fr ∧ 17 ≤ lo ∧ xRi G YX12_loneVariable (fr - 1) (lo - 17) [rv x0, .int (aI h (fR h x0 3103) (Int32.toNatClampNeg (aI h (fR h x0 3103) (Int32.toNatClampNeg x1))))] h (fun x50 h49 => xext h h49 → tg h49 (fR h x0 3114) = 109 ∧ vp_in x50 (ln h49 (fR h x0 3114)) ∧ 1 ≤ fr ∧ 13 ≤ lo ∧ xRi G YX12_fileOfRun (fr - 1) (lo - 13) [rv x0, rv (aR h49 (fR h x0 3114) (Int32.toNatClampNeg x50))] h49 (fun x58 h57 => xext h49 h57 → ((¬ x2 = 5 → ((¬ x2 = 6 → ((¬ x2 = 7 → tg h57 (fR h57 x0 3102) = 100 ∧ vp_in x1 (ln h57 (fR h57 x0 3102)) ∧ 1 ≤ fr ∧ 18 ≤ lo ∧ xRv G YX12_putBuffer (fr - 1) (lo - 18) [rv x0, .int x58, .int (aI h57 (fR h57 x0 3102) (Int32.toNatClampNeg x1))] h57 (fun h68 => xext h57 h68 → bX12_work_126 G fr lo h68 Q) (fun r h2 => Q (.threw r) h2)) ∧ (x2 = 7 → tg h57 (fR h57 x0 3102) = 100 ∧ vp_in x1 (ln h57 (fR h57 x0 3102)) ∧ 1 ≤ fr ∧ 14 ≤ lo ∧ xRv G YX12_get (fr - 1) (lo - 14) [rv x0, .int x58, .int (aI h57 (fR h57 x0 3102) (Int32.toNatClampNeg x1))] h57 (fun h76 => xext h57 h76 → bX12_work_126 G fr lo h76 Q) (fun r h2 => Q (.threw r) h2)))) ∧ (x2 = 6 → 1 ≤ fr ∧ 13 ≤ lo ∧ xRv G YX12_rewrite (fr - 1) (lo - 13) [rv x0, .int x58] h57 (fun h82 => xext h57 h82 → bX12_work_126 G fr lo h82 Q) (fun r h2 => Q (.threw r) h2)))) ∧ (x2 = 5 → tg h57 (fR h57 x0 3102) = 100 ∧ vp_in x1 (ln h57 (fR h57 x0 3102)) ∧ 1 ≤ fr ∧ 14 ≤ lo ∧ xRv G YX12_reset (fr - 1) (lo - 14) [rv x0, .int x58, .int (aI h57 (fR h57 x0 3102) (Int32.toNatClampNeg x1))] h57 (fun h90 => xext h57 h90 → bX12_work_126 G fr lo h90 Q) (fun r h2 => Q (.threw r) h2)))) (fun r h2 => Q (.threw r) h2)) (fun r h2 => Q (.threw r) h2)))) ∧ (¬ 4 < x2 → tg h x0 = 13 ∧ 1 ≤ fr ∧ 17 ≤ lo ∧ xRv G YX12_writeAll (fr - 1) (lo - 17) [rv x0, .int x1, .int x2] h (fun h96 => xext h h96 → Q (.returned none) h96) (fun r h2 => Q (.threw r) h2)))) ∧ (¬ 2 < x2 → tg h x0 = 13 ∧ 1 ≤ fr ∧ 21 ≤ lo ∧ xRv G YX12_readAll (fr - 1) (lo - 21) [rv x0, .int x1, .int x2] h (fun h102 => xext h h102 → Q (.returned none) h102) (fun r h2 => Q (.threw r) h2)))
set_option maxRecDepth 100000 in
theorem uX12_work {G : xG} {fr lo : Nat} {x0 : Nat} {x1 : Int32} {x2 : Int32} {h : xH} {Q : Outcome → xH → Prop} (hq : bX12_work G fr lo x0 x1 x2 h Q) : xP G YX12_work fr lo 0 [(0, rv x0), (1, .int x1), (2, .int x2)] [] h Q := by
  unfold bX12_work at hq
  refine x_iload_n 2 dX12_work_0 rfl ?_
  refine x_iconst (v := 2) dX12_work_1 (by decide) ?_
  refine x_icmp_gt (tgt := 12) dX12_work_2 (by decide) (fun c1 => ?_) (fun c1 => ?_)
  · replace hq := hq.1 c1
    refine x_iload_n 2 dX12_work_12 rfl ?_
    refine x_iconst (v := 4) dX12_work_13 (by decide) ?_
    refine x_icmp_gt (tgt := 24) dX12_work_14 (by decide) (fun c2 => ?_) (fun c2 => ?_)
    · replace hq := hq.1 c2
      refine x_aload_n 0 dX12_work_24 rfl ?_
      obtain ⟨g3, hq⟩ := hq
      refine x_get (v := rv (fR h x0 3103)) fdX12_73 dX12_work_25 g3 rfl ?_
      refine x_aload_n 0 dX12_work_28 rfl ?_
      refine x_get (v := rv (fR h x0 3103)) fdX12_73 dX12_work_29 g3 rfl ?_
      refine x_iload_n 1 dX12_work_32 rfl ?_
      obtain ⟨g4, hq⟩ := hq
      obtain ⟨i5, hq⟩ := hq
      refine x_iald 0 (Or.inl rfl) g4 i5 dX12_work_33 ?_
      obtain ⟨i6, hq⟩ := hq
      refine x_iald 0 (Or.inl rfl) g4 i6 dX12_work_34 ?_
      refine x_istore_n (lv' := [(3, .int (aI h (fR h x0 3103) (Int32.toNatClampNeg (aI h (fR h x0 3103) (Int32.toNatClampNeg x1))))), (0, rv x0), (1, .int x1), (2, .int x2)]) dX12_work_35 (by decide) rfl ?_
      refine x_iload_n 3 dX12_work_36 rfl ?_
      refine x_bipush (v := 8) dX12_work_37 (by decide) ?_
      refine x_icmp_gt (tgt := 129) dX12_work_39 (by decide) (fun c7 => ?_) (fun c7 => ?_)
      · replace hq := hq.1 c7
        refine x_iload_n 3 dX12_work_129 rfl ?_
        refine x_bipush (v := 9) dX12_work_130 (by decide) ?_
        refine x_icmp_ne (tgt := 153) dX12_work_132 (by decide) (fun c8 => ?_) (fun c8 => ?_)
        · replace hq := hq.1 c8
          refine x_aload_n 1 dX12_work_153 rfl ?_
          refine x_iload_n 0 dX12_work_154 rfl ?_
          obtain ⟨g9, g10, hq⟩ := hq
          refine x_callV (Yc := YX12_evaluate) (as := [.int (aI h (fR h x0 3103) (Int32.toNatClampNeg (aI h (fR h x0 3103) (Int32.toNatClampNeg x1))))]) (st := []) q4543 mvX12_evaluate g3 rfl dX12_work_155 (xle (xal1 (rv_cat _) (xal1 rfl xal0)) (by decide)) (xfr g9) (xlo xsw0 (by decide) g10) (xKv hq (fun h11 hq e13 => ?_) (fun _ _ q _ => q))
          replace hq := hq e13
          refine x_aload_n 1 dX12_work_158 rfl ?_
          have t14 : tg h11 x0 = 13 := e13.tg g3 (by decide)
          refine x_get (v := .int (fI h11 x0 3170)) fdX12_1121 dX12_work_159 t14 rfl ?_
          refine x_if_eq (tgt := 166) dX12_work_162 (by decide) (fun c15 => ?_) (fun c15 => ?_)
          · replace hq := hq.1 c15
            refine x_aload_n 1 dX12_work_166 rfl ?_
            refine x_get (v := .long (fJ h11 x0 3177)) fdX12_1145 dX12_work_167 t14 rfl ?_
            refine x_lconst (v := 0) dX12_work_170 (by decide) ?_
            refine x_lcmp dX12_work_171 ?_
            refine x_if_ne (tgt := 189) dX12_work_172 (by decide) (fun c16 => ?_) (fun c16 => ?_)
            · replace hq := hq.1 c16
              refine x_aload_n 1 dX12_work_189 rfl ?_
              refine x_get (v := rv (fR h11 x0 3155)) fdX12_176 dX12_work_190 t14 rfl ?_
              refine x_aload_n 1 dX12_work_193 rfl ?_
              refine x_get (v := .long (fJ h11 x0 3177)) fdX12_1145 dX12_work_194 t14 rfl ?_
              refine x_l2i dX12_work_197 ?_
              obtain ⟨g17, hq⟩ := hq
              obtain ⟨i18, hq⟩ := hq
              refine x_zald g17 i18 dX12_work_198 ?_
              refine x_if_eq (tgt := 213) dX12_work_199 (by decide) (fun c19 => ?_) (fun c19 => ?_)
              · replace hq := hq.1 c19
                refine xP.pick (lv' := [(0, rv x0)]) [1] rfl ?_
                exact uX12_work_213 hq
              · replace hq := hq.2 c19
                refine x_aload_n 1 dX12_work_202 rfl ?_
                refine x_iconst (v := 4) dX12_work_203 (by decide) ?_
                refine x_aload_n 1 dX12_work_204 rfl ?_
                refine x_get (v := rv (fR h11 x0 3102)) fdX12_70 dX12_work_205 t14 rfl ?_
                refine x_iload_n 2 dX12_work_208 rfl ?_
                obtain ⟨g20, hq⟩ := hq
                obtain ⟨i21, hq⟩ := hq
                refine x_iald 0 (Or.inl rfl) g20 i21 dX12_work_209 ?_
                obtain ⟨g22, g23, hq⟩ := hq
                refine x_callV (Yc := YX12_error) (as := [.int 4, .int (aI h11 (fR h11 x0 3102) (Int32.toNatClampNeg x1))]) (st := []) q4490 mvX12_error t14 rfl dX12_work_210 (xle (xal1 (rv_cat _) (xal1 rfl (xal1 rfl xal0))) (by decide)) (xfr g22) (xlo xsw0 (by decide) g23) (xKv hq (fun h24 hq e26 => ?_) (fun _ _ q _ => q))
                replace hq := hq e26
                refine xP.pick (lv' := [(0, rv x0)]) [1] rfl ?_
                exact uX12_work_213 hq
            · replace hq := hq.2 c16
              refine x_aload_n 1 dX12_work_175 rfl ?_
              refine x_iconst (v := 3) dX12_work_176 (by decide) ?_
              refine x_aload_n 1 dX12_work_177 rfl ?_
              refine x_get (v := rv (fR h11 x0 3102)) fdX12_70 dX12_work_178 t14 rfl ?_
              refine x_iload_n 2 dX12_work_181 rfl ?_
              obtain ⟨g27, hq⟩ := hq
              obtain ⟨i28, hq⟩ := hq
              refine x_iald 0 (Or.inl rfl) g27 i28 dX12_work_182 ?_
              obtain ⟨g29, g30, hq⟩ := hq
              refine x_callV (Yc := YX12_error) (as := [.int 3, .int (aI h11 (fR h11 x0 3102) (Int32.toNatClampNeg x1))]) (st := []) q4490 mvX12_error t14 rfl dX12_work_183 (xle (xal1 (rv_cat _) (xal1 rfl (xal1 rfl xal0))) (by decide)) (xfr g29) (xlo xsw0 (by decide) g30) (xKv hq (fun h31 hq e33 => ?_) (fun _ _ q _ => q))
              replace hq := hq e33
              refine x_goto (tgt := 213) dX12_work_186 (by decide) ?_
              refine xP.pick (lv' := [(0, rv x0)]) [1] rfl ?_
              exact uX12_work_213 hq
          · replace hq := hq.2 c15
            exact x_vret rfl dX12_work_165 hq
        · replace hq := hq.2 c8
          refine x_aload_n 1 dX12_work_135 rfl ?_
          refine x_aload_n 1 dX12_work_136 rfl ?_
          refine x_iload_n 0 dX12_work_137 rfl ?_
          obtain ⟨g34, g35, hq⟩ := hq
          refine x_callV (Yc := YX12_loneVariable) (as := [.int (aI h (fR h x0 3103) (Int32.toNatClampNeg (aI h (fR h x0 3103) (Int32.toNatClampNeg x1))))]) (st := [rv x0]) q4348 mvX12_loneVariable g3 rfl dX12_work_138 (xle (xal1 (rv_cat _) (xal1 rfl xal0)) (by decide)) (xfr g34) (xlo (xsw1 (rv_cat _) xsw0) (by decide) g35) (xKi hq (fun x37 h36 hq e38 => ?_) (fun _ _ q _ => q))
          replace hq := hq e38
          refine x_aload_n 1 dX12_work_141 rfl ?_
          have t39 : tg h36 x0 = 13 := e38.tg g3 (by decide)
          refine x_get (v := rv (fR h36 x0 3102)) fdX12_70 dX12_work_142 t39 rfl ?_
          refine x_iload_n 2 dX12_work_145 rfl ?_
          obtain ⟨g40, hq⟩ := hq
          obtain ⟨i41, hq⟩ := hq
          refine x_iald 0 (Or.inl rfl) g40 i41 dX12_work_146 ?_
          obtain ⟨g42, g43, hq⟩ := hq
          refine x_callV (Yc := YX12_make) (as := [.int x37, .int (aI h36 (fR h36 x0 3102) (Int32.toNatClampNeg x1))]) (st := []) q4807 mvX12_make t39 rfl dX12_work_147 (xle (xal1 (rv_cat _) (xal1 rfl (xal1 rfl xal0))) (by decide)) (xfr g42) (xlo xsw0 (by decide) g43) (xKv hq (fun h44 hq e46 => ?_) (fun _ _ q _ => q))
          replace hq := hq e46
          refine x_goto (tgt := 242) dX12_work_150 (by decide) ?_
          refine xP.pick (lv' := []) [] rfl ?_
          exact uX12_work_242 hq
      · replace hq := hq.2 c7
        refine x_aload_n 1 dX12_work_42 rfl ?_
        refine x_aload_n 1 dX12_work_43 rfl ?_
        refine x_get (v := rv (fR h x0 3114)) fdX12_102 dX12_work_44 g3 rfl ?_
        refine x_aload_n 1 dX12_work_47 rfl ?_
        refine x_iload_n 0 dX12_work_48 rfl ?_
        obtain ⟨g47, g48, hq⟩ := hq
        refine x_callV (Yc := YX12_loneVariable) (as := [.int (aI h (fR h x0 3103) (Int32.toNatClampNeg (aI h (fR h x0 3103) (Int32.toNatClampNeg x1))))]) (st := [rv (fR h x0 3114), rv x0]) q4348 mvX12_loneVariable g3 rfl dX12_work_49 (xle (xal1 (rv_cat _) (xal1 rfl xal0)) (by decide)) (xfr g47) (xlo (xsw1 (rv_cat _) (xsw1 (rv_cat _) xsw0)) (by decide) g48) (xKi hq (fun x50 h49 hq e51 => ?_) (fun _ _ q _ => q))
        replace hq := hq e51
        obtain ⟨g52, hq⟩ := hq
        obtain ⟨i53, hq⟩ := hq
        refine x_aald 9 rfl g52 (by decide) i53 dX12_work_52 ?_
        have t54 : tg h49 x0 = 13 := e51.tg g3 (by decide)
        obtain ⟨g55, g56, hq⟩ := hq
        refine x_callV (Yc := YX12_fileOfRun) (as := [rv (aR h49 (fR h x0 3114) (Int32.toNatClampNeg x50))]) (st := []) q4502 mvX12_fileOfRun t54 rfl dX12_work_53 (xle (xal1 (rv_cat _) (xal1 (rv_cat _) xal0)) (by decide)) (xfr g55) (xlo xsw0 (by decide) g56) (xKi hq (fun x58 h57 hq e59 => ?_) (fun _ _ q _ => q))
        replace hq := hq e59
        refine x_istore (lv' := [(4, .int x58), (3, .int (aI h (fR h x0 3103) (Int32.toNatClampNeg (aI h (fR h x0 3103) (Int32.toNatClampNeg x1))))), (0, rv x0), (1, .int x1), (2, .int x2)]) dX12_work_56 (by decide) rfl ?_
        refine x_iload_n 4 dX12_work_58 rfl ?_
        refine x_iconst (v := 5) dX12_work_59 (by decide) ?_
        refine x_icmp_ne (tgt := 78) dX12_work_60 (by decide) (fun c60 => ?_) (fun c60 => ?_)
        · replace hq := hq.1 c60
          refine x_iload_n 4 dX12_work_78 rfl ?_
          refine x_bipush (v := 6) dX12_work_79 (by decide) ?_
          refine x_icmp_ne (tgt := 93) dX12_work_81 (by decide) (fun c61 => ?_) (fun c61 => ?_)
          · replace hq := hq.1 c61
            refine x_iload_n 4 dX12_work_93 rfl ?_
            refine x_bipush (v := 7) dX12_work_94 (by decide) ?_
            refine x_icmp_ne (tgt := 114) dX12_work_96 (by decide) (fun c62 => ?_) (fun c62 => ?_)
            · replace hq := hq.1 c62
              refine x_aload_n 2 dX12_work_114 rfl ?_
              refine x_iload 0 dX12_work_115 rfl ?_
              refine x_aload_n 2 dX12_work_117 rfl ?_
              have t63 : tg h57 x0 = 13 := e59.tg t54 (by decide)
              refine x_get (v := rv (fR h57 x0 3102)) fdX12_70 dX12_work_118 t63 rfl ?_
              refine x_iload_n 3 dX12_work_121 rfl ?_
              obtain ⟨g64, hq⟩ := hq
              obtain ⟨i65, hq⟩ := hq
              refine x_iald 0 (Or.inl rfl) g64 i65 dX12_work_122 ?_
              obtain ⟨g66, g67, hq⟩ := hq
              refine x_callV (Yc := YX12_putBuffer) (as := [.int x58, .int (aI h57 (fR h57 x0 3102) (Int32.toNatClampNeg x1))]) (st := []) q4799 mvX12_putBuffer t63 rfl dX12_work_123 (xle (xal1 (rv_cat _) (xal1 rfl (xal1 rfl xal0))) (by decide)) (xfr g66) (xlo xsw0 (by decide) g67) (xKv hq (fun h68 hq e70 => ?_) (fun _ _ q _ => q))
              replace hq := hq e70
              refine xP.pick (lv' := []) [] rfl ?_
              exact uX12_work_126 hq
            · replace hq := hq.2 c62
              refine x_aload_n 2 dX12_work_99 rfl ?_
              refine x_iload 0 dX12_work_100 rfl ?_
              refine x_aload_n 2 dX12_work_102 rfl ?_
              have t71 : tg h57 x0 = 13 := e59.tg t54 (by decide)
              refine x_get (v := rv (fR h57 x0 3102)) fdX12_70 dX12_work_103 t71 rfl ?_
              refine x_iload_n 3 dX12_work_106 rfl ?_
              obtain ⟨g72, hq⟩ := hq
              obtain ⟨i73, hq⟩ := hq
              refine x_iald 0 (Or.inl rfl) g72 i73 dX12_work_107 ?_
              obtain ⟨g74, g75, hq⟩ := hq
              refine x_callV (Yc := YX12_get) (as := [.int x58, .int (aI h57 (fR h57 x0 3102) (Int32.toNatClampNeg x1))]) (st := []) q4803 mvX12_get t71 rfl dX12_work_108 (xle (xal1 (rv_cat _) (xal1 rfl (xal1 rfl xal0))) (by decide)) (xfr g74) (xlo xsw0 (by decide) g75) (xKv hq (fun h76 hq e78 => ?_) (fun _ _ q _ => q))
              replace hq := hq e78
              refine x_goto (tgt := 126) dX12_work_111 (by decide) ?_
              refine xP.pick (lv' := []) [] rfl ?_
              exact uX12_work_126 hq
          · replace hq := hq.2 c61
            refine x_aload_n 2 dX12_work_84 rfl ?_
            refine x_iload 0 dX12_work_85 rfl ?_
            have t79 : tg h57 x0 = 13 := e59.tg t54 (by decide)
            obtain ⟨g80, g81, hq⟩ := hq
            refine x_callV (Yc := YX12_rewrite) (as := [.int x58]) (st := []) q4531 mvX12_rewrite t79 rfl dX12_work_87 (xle (xal1 (rv_cat _) (xal1 rfl xal0)) (by decide)) (xfr g80) (xlo xsw0 (by decide) g81) (xKv hq (fun h82 hq e84 => ?_) (fun _ _ q _ => q))
            replace hq := hq e84
            refine x_goto (tgt := 126) dX12_work_90 (by decide) ?_
            refine xP.pick (lv' := []) [] rfl ?_
            exact uX12_work_126 hq
        · replace hq := hq.2 c60
          refine x_aload_n 2 dX12_work_63 rfl ?_
          refine x_iload 0 dX12_work_64 rfl ?_
          refine x_aload_n 2 dX12_work_66 rfl ?_
          have t85 : tg h57 x0 = 13 := e59.tg t54 (by decide)
          refine x_get (v := rv (fR h57 x0 3102)) fdX12_70 dX12_work_67 t85 rfl ?_
          refine x_iload_n 3 dX12_work_70 rfl ?_
          obtain ⟨g86, hq⟩ := hq
          obtain ⟨i87, hq⟩ := hq
          refine x_iald 0 (Or.inl rfl) g86 i87 dX12_work_71 ?_
          obtain ⟨g88, g89, hq⟩ := hq
          refine x_callV (Yc := YX12_reset) (as := [.int x58, .int (aI h57 (fR h57 x0 3102) (Int32.toNatClampNeg x1))]) (st := []) q4522 mvX12_reset t85 rfl dX12_work_72 (xle (xal1 (rv_cat _) (xal1 rfl (xal1 rfl xal0))) (by decide)) (xfr g88) (xlo xsw0 (by decide) g89) (xKv hq (fun h90 hq e92 => ?_) (fun _ _ q _ => q))
          replace hq := hq e92
          refine x_goto (tgt := 126) dX12_work_75 (by decide) ?_
          refine xP.pick (lv' := []) [] rfl ?_
          exact uX12_work_126 hq
    · replace hq := hq.2 c2
      refine x_aload_n 0 dX12_work_17 rfl ?_
      refine x_iload_n 1 dX12_work_18 rfl ?_
      refine x_iload_n 2 dX12_work_19 rfl ?_
      obtain ⟨g93, hq⟩ := hq
      obtain ⟨g94, g95, hq⟩ := hq
      refine x_callV (Yc := YX12_writeAll) (as := [.int x1, .int x2]) (st := []) q4756 mvX12_writeAll g93 rfl dX12_work_20 (xle (xal1 (rv_cat _) (xal1 rfl (xal1 rfl xal0))) (by decide)) (xfr g94) (xlo xsw0 (by decide) g95) (xKv hq (fun h96 hq e98 => ?_) (fun _ _ q _ => q))
      replace hq := hq e98
      exact x_vret rfl dX12_work_23 hq
  · replace hq := hq.2 c1
    refine x_aload_n 0 dX12_work_5 rfl ?_
    refine x_iload_n 1 dX12_work_6 rfl ?_
    refine x_iload_n 2 dX12_work_7 rfl ?_
    obtain ⟨g99, hq⟩ := hq
    obtain ⟨g100, g101, hq⟩ := hq
    refine x_callV (Yc := YX12_readAll) (as := [.int x1, .int x2]) (st := []) q4725 mvX12_readAll g99 rfl dX12_work_8 (xle (xal1 (rv_cat _) (xal1 rfl (xal1 rfl xal0))) (by decide)) (xfr g100) (xlo xsw0 (by decide) g101) (xKv hq (fun h102 hq e104 => ?_) (fun _ _ q _ => q))
    replace hq := hq e104
    exact x_vret rfl dX12_work_11 hq
theorem rX12_work {G : xG} {fr lo : Nat} {x0 : Nat} {x1 : Int32} {x2 : Int32} {h : xH} {Q : Outcome → xH → Prop} (hq : bX12_work G fr lo x0 x1 x2 h Q) : xR G YX12_work fr lo [rv x0, .int x1, .int x2] h Q := by
  show xP _ _ _ _ _ (lv_args 0 _) _ _ _
  rw [show lv_args 0 [rv x0, .int x1, .int x2] = [(0, rv x0), (1, .int x1), (2, .int x2)] from (xla1 (rv_cat _) (xla1 rfl (xla1 rfl xla0)))]
  exact uX12_work hq
set_option maxRecDepth 100000 in
theorem dX12_readAll_0 : decode cX12_readAll 0 = .ok (.aload_n 0, 1) := by decide +kernel
set_option maxRecDepth 100000 in
theorem dX12_readAll_1 : decode cX12_readAll 1 = .ok (.getfield 82, 3) := by decide +kernel
set_option maxRecDepth 100000 in
theorem dX12_readAll_4 : decode cX12_readAll 4 = .ok (.iload_n 1, 1) := by decide +kernel
set_option maxRecDepth 100000 in
theorem dX12_readAll_5 : decode cX12_readAll 5 = .ok (.iaload, 1) := by decide +kernel
set_option maxRecDepth 100000 in
theorem dX12_readAll_6 : decode cX12_readAll 6 = .ok (.iconst (-1), 1) := by decide +kernel
set_option maxRecDepth 100000 in
theorem dX12_readAll_7 : decode cX12_readAll 7 = .ok (.if_icmp .ne 10, 3) := by decide +kernel
set_option maxRecDepth 100000 in
theorem dX12_readAll_10 : decode cX12_readAll 10 = .ok (.aload_n 0, 1) := by decide +kernel
set_option maxRecDepth 100000 in
theorem dX12_readAll_11 : decode cX12_readAll 11 = .ok (.getfield 727, 3) := by decide +kernel
set_option maxRecDepth 100000 in
theorem dX12_readAll_14 : decode cX12_readAll 14 = .ok (.goto 23, 3) := by decide +kernel
set_option maxRecDepth 100000 in
theorem dX12_readAll_17 : decode cX12_readAll 17 = .ok (.aload_n 0, 1) := by decide +kernel
set_option maxRecDepth 100000 in
theorem dX12_readAll_18 : decode cX12_readAll 18 = .ok (.getfield 102, 3) := by decide +kernel
set_option maxRecDepth 100000 in
theorem dX12_readAll_21 : decode cX12_readAll 21 = .ok (.aload_n 0, 1) := by decide +kernel
set_option maxRecDepth 100000 in
theorem dX12_readAll_22 : decode cX12_readAll 22 = .ok (.aload_n 0, 1) := by decide +kernel
set_option maxRecDepth 100000 in
theorem dX12_readAll_23 : decode cX12_readAll 23 = .ok (.getfield 73, 3) := by decide +kernel
set_option maxRecDepth 100000 in
theorem dX12_readAll_26 : decode cX12_readAll 26 = .ok (.aload_n 0, 1) := by decide +kernel
set_option maxRecDepth 100000 in
theorem dX12_readAll_27 : decode cX12_readAll 27 = .ok (.getfield 82, 3) := by decide +kernel
set_option maxRecDepth 100000 in
theorem dX12_readAll_30 : decode cX12_readAll 30 = .ok (.iload_n 1, 1) := by decide +kernel
set_option maxRecDepth 100000 in
theorem dX12_readAll_31 : decode cX12_readAll 31 = .ok (.iaload, 1) := by decide +kernel
set_option maxRecDepth 100000 in
theorem dX12_readAll_32 : decode cX12_readAll 32 = .ok (.iaload, 1) := by decide +kernel
set_option maxRecDepth 100000 in
theorem dX12_readAll_33 : decode cX12_readAll 33 = .ok (.invokevirtual 1022, 3) := by decide +kernel
set_option maxRecDepth 100000 in
theorem dX12_readAll_36 : decode cX12_readAll 36 = .ok (.aaload, 1) := by decide +kernel
set_option maxRecDepth 100000 in
theorem dX12_readAll_37 : decode cX12_readAll 37 = .ok (.astore_n 3, 1) := by decide +kernel
set_option maxRecDepth 100000 in
theorem dX12_readAll_38 : decode cX12_readAll 38 = .ok (.aload_n 0, 1) := by decide +kernel
set_option maxRecDepth 100000 in
theorem dX12_readAll_39 : decode cX12_readAll 39 = .ok (.aload_n 3, 1) := by decide +kernel
set_option maxRecDepth 100000 in
theorem dX12_readAll_40 : decode cX12_readAll 40 = .ok (.invokevirtual 1304, 3) := by decide +kernel
set_option maxRecDepth 100000 in
theorem dX12_readAll_43 : decode cX12_readAll 43 = .ok (.istore 4, 2) := by decide +kernel
set_option maxRecDepth 100000 in
theorem dX12_readAll_45 : decode cX12_readAll 45 = .ok (.aload_n 0, 1) := by decide +kernel
set_option maxRecDepth 100000 in
theorem dX12_readAll_46 : decode cX12_readAll 46 = .ok (.getfield 85, 3) := by decide +kernel
set_option maxRecDepth 100000 in
theorem dX12_readAll_49 : decode cX12_readAll 49 = .ok (.iload_n 1, 1) := by decide +kernel
set_option maxRecDepth 100000 in
theorem dX12_readAll_50 : decode cX12_readAll 50 = .ok (.iaload, 1) := by decide +kernel
set_option maxRecDepth 100000 in
theorem dX12_readAll_51 : decode cX12_readAll 51 = .ok (.istore 5, 2) := by decide +kernel
set_option maxRecDepth 100000 in
theorem dX12_readAll_53 : decode cX12_readAll 53 = .ok (.iload 5, 2) := by decide +kernel
set_option maxRecDepth 100000 in
theorem dX12_readAll_55 : decode cX12_readAll 55 = .ok (.iconst (-1), 1) := by decide +kernel
set_option maxRecDepth 100000 in
theorem dX12_readAll_56 : decode cX12_readAll 56 = .ok (.if_icmp .eq 187, 3) := by decide +kernel
set_option maxRecDepth 100000 in
theorem dX12_readAll_59 : decode cX12_readAll 59 = .ok (.aload_n 0, 1) := by decide +kernel
set_option maxRecDepth 100000 in
theorem dX12_readAll_60 : decode cX12_readAll 60 = .ok (.getfield 73, 3) := by decide +kernel
set_option maxRecDepth 100000 in
theorem dX12_readAll_63 : decode cX12_readAll 63 = .ok (.iload 5, 2) := by decide +kernel
set_option maxRecDepth 100000 in
theorem dX12_readAll_65 : decode cX12_readAll 65 = .ok (.iaload, 1) := by decide +kernel
set_option maxRecDepth 100000 in
theorem dX12_readAll_66 : decode cX12_readAll 66 = .ok (.istore 6, 2) := by decide +kernel
set_option maxRecDepth 100000 in
theorem dX12_readAll_68 : decode cX12_readAll 68 = .ok (.aload_n 0, 1) := by decide +kernel
set_option maxRecDepth 100000 in
theorem dX12_readAll_69 : decode cX12_readAll 69 = .ok (.iload 6, 2) := by decide +kernel
set_option maxRecDepth 100000 in
theorem dX12_readAll_71 : decode cX12_readAll 71 = .ok (.invokevirtual 1022, 3) := by decide +kernel
set_option maxRecDepth 100000 in
theorem dX12_readAll_74 : decode cX12_readAll 74 = .ok (.istore 7, 2) := by decide +kernel
set_option maxRecDepth 100000 in
theorem dX12_readAll_76 : decode cX12_readAll 76 = .ok (.aload_n 0, 1) := by decide +kernel
set_option maxRecDepth 100000 in
theorem dX12_readAll_77 : decode cX12_readAll 77 = .ok (.iload 7, 2) := by decide +kernel
set_option maxRecDepth 100000 in
theorem dX12_readAll_79 : decode cX12_readAll 79 = .ok (.invokevirtual 1248, 3) := by decide +kernel
set_option maxRecDepth 100000 in
theorem dX12_readAll_82 : decode cX12_readAll 82 = .ok (.aload_n 0, 1) := by decide +kernel
set_option maxRecDepth 100000 in
theorem dX12_readAll_83 : decode cX12_readAll 83 = .ok (.getfield 1121, 3) := by decide +kernel
set_option maxRecDepth 100000 in
theorem dX12_readAll_86 : decode cX12_readAll 86 = .ok (.ifCond .eq 4, 3) := by decide +kernel
set_option maxRecDepth 100000 in
theorem dX12_readAll_89 : decode cX12_readAll 89 = .ok (.return_, 1) := by decide +kernel
set_option maxRecDepth 100000 in
theorem dX12_readAll_90 : decode cX12_readAll 90 = .ok (.aload_n 0, 1) := by decide +kernel
set_option maxRecDepth 100000 in
theorem dX12_readAll_91 : decode cX12_readAll 91 = .ok (.getfield 96, 3) := by decide +kernel
set_option maxRecDepth 100000 in
theorem dX12_readAll_94 : decode cX12_readAll 94 = .ok (.iload 7, 2) := by decide +kernel
set_option maxRecDepth 100000 in
theorem dX12_readAll_96 : decode cX12_readAll 96 = .ok (.aaload, 1) := by decide +kernel
set_option maxRecDepth 100000 in
theorem dX12_readAll_97 : decode cX12_readAll 97 = .ok (.astore 8, 2) := by decide +kernel
set_option maxRecDepth 100000 in
theorem dX12_readAll_99 : decode cX12_readAll 99 = .ok (.aload_n 0, 1) := by decide +kernel
set_option maxRecDepth 100000 in
theorem dX12_readAll_100 : decode cX12_readAll 100 = .ok (.getfield 225, 3) := by decide +kernel
set_option maxRecDepth 100000 in
theorem dX12_readAll_103 : decode cX12_readAll 103 = .ok (.iload 4, 2) := by decide +kernel
set_option maxRecDepth 100000 in
theorem dX12_readAll_105 : decode cX12_readAll 105 = .ok (.aaload, 1) := by decide +kernel
set_option maxRecDepth 100000 in
theorem dX12_readAll_106 : decode cX12_readAll 106 = .ok (.invokevirtual 1040, 3) := by decide +kernel
set_option maxRecDepth 100000 in
theorem dX12_readAll_109 : decode cX12_readAll 109 = .ok (.ifCond .eq 19, 3) := by decide +kernel
set_option maxRecDepth 100000 in
theorem dX12_readAll_112 : decode cX12_readAll 112 = .ok (.aload 8, 2) := by decide +kernel
set_option maxRecDepth 100000 in
theorem dX12_readAll_114 : decode cX12_readAll 114 = .ok (.invokevirtual 867, 3) := by decide +kernel
set_option maxRecDepth 100000 in
theorem dX12_readAll_117 : decode cX12_readAll 117 = .ok (.getfield 845, 3) := by decide +kernel
set_option maxRecDepth 100000 in
theorem dX12_readAll_120 : decode cX12_readAll 120 = .ok (.iconst 4, 1) := by decide +kernel
set_option maxRecDepth 100000 in
theorem dX12_readAll_121 : decode cX12_readAll 121 = .ok (.if_icmp .eq 7, 3) := by decide +kernel
set_option maxRecDepth 100000 in
theorem dX12_readAll_124 : decode cX12_readAll 124 = .ok (.iconst 1, 1) := by decide +kernel
set_option maxRecDepth 100000 in
theorem dX12_readAll_125 : decode cX12_readAll 125 = .ok (.goto 4, 3) := by decide +kernel
set_option maxRecDepth 100000 in
theorem dX12_readAll_128 : decode cX12_readAll 128 = .ok (.iconst 0, 1) := by decide +kernel
set_option maxRecDepth 100000 in
theorem dX12_readAll_129 : decode cX12_readAll 129 = .ok (.istore 9, 2) := by decide +kernel
set_option maxRecDepth 100000 in
theorem dX12_readAll_131 : decode cX12_readAll 131 = .ok (.aload_n 0, 1) := by decide +kernel
set_option maxRecDepth 100000 in
theorem dX12_readAll_132 : decode cX12_readAll 132 = .ok (.getfield 204, 3) := by decide +kernel
set_option maxRecDepth 100000 in
theorem dX12_readAll_135 : decode cX12_readAll 135 = .ok (.iload 4, 2) := by decide +kernel
set_option maxRecDepth 100000 in
theorem dX12_readAll_137 : decode cX12_readAll 137 = .ok (.iaload, 1) := by decide +kernel
set_option maxRecDepth 100000 in
theorem dX12_readAll_138 : decode cX12_readAll 138 = .ok (.iconst 1, 1) := by decide +kernel
set_option maxRecDepth 100000 in
theorem dX12_readAll_139 : decode cX12_readAll 139 = .ok (.if_icmp .ne 19, 3) := by decide +kernel
set_option maxRecDepth 100000 in
theorem dX12_readAll_142 : decode cX12_readAll 142 = .ok (.iload 9, 2) := by decide +kernel
set_option maxRecDepth 100000 in
theorem dX12_readAll_144 : decode cX12_readAll 144 = .ok (.ifCond .ne 27, 3) := by decide +kernel
set_option maxRecDepth 100000 in
theorem dX12_readAll_147 : decode cX12_readAll 147 = .ok (.aload_n 0, 1) := by decide +kernel
set_option maxRecDepth 100000 in
theorem dX12_readAll_148 : decode cX12_readAll 148 = .ok (.getfield 213, 3) := by decide +kernel
set_option maxRecDepth 100000 in
theorem dX12_readAll_151 : decode cX12_readAll 151 = .ok (.iload 4, 2) := by decide +kernel
set_option maxRecDepth 100000 in
theorem dX12_readAll_153 : decode cX12_readAll 153 = .ok (.iaload, 1) := by decide +kernel
set_option maxRecDepth 100000 in
theorem dX12_readAll_154 : decode cX12_readAll 154 = .ok (.iconst (-1), 1) := by decide +kernel
set_option maxRecDepth 100000 in
theorem dX12_readAll_155 : decode cX12_readAll 155 = .ok (.if_icmp .ne 16, 3) := by decide +kernel
set_option maxRecDepth 100000 in
theorem dX12_readAll_158 : decode cX12_readAll 158 = .ok (.aload_n 0, 1) := by decide +kernel
set_option maxRecDepth 100000 in
theorem dX12_readAll_159 : decode cX12_readAll 159 = .ok (.bipush 10, 2) := by decide +kernel
set_option maxRecDepth 100000 in
theorem dX12_readAll_161 : decode cX12_readAll 161 = .ok (.aload_n 0, 1) := by decide +kernel
set_option maxRecDepth 100000 in
theorem dX12_readAll_162 : decode cX12_readAll 162 = .ok (.getfield 70, 3) := by decide +kernel
set_option maxRecDepth 100000 in
theorem dX12_readAll_165 : decode cX12_readAll 165 = .ok (.iload_n 1, 1) := by decide +kernel
set_option maxRecDepth 100000 in
theorem dX12_readAll_166 : decode cX12_readAll 166 = .ok (.iaload, 1) := by decide +kernel
set_option maxRecDepth 100000 in
theorem dX12_readAll_167 : decode cX12_readAll 167 = .ok (.invokevirtual 1142, 3) := by decide +kernel
set_option maxRecDepth 100000 in
theorem dX12_readAll_170 : decode cX12_readAll 170 = .ok (.return_, 1) := by decide +kernel
set_option maxRecDepth 100000 in
theorem dX12_readAll_171 : decode cX12_readAll 171 = .ok (.iload 9, 2) := by decide +kernel
set_option maxRecDepth 100000 in
theorem dX12_readAll_173 : decode cX12_readAll 173 = .ok (.ifCond .eq 31, 3) := by decide +kernel
set_option maxRecDepth 100000 in
theorem dX12_readAll_176 : decode cX12_readAll 176 = .ok (.aload_n 0, 1) := by decide +kernel
set_option maxRecDepth 100000 in
theorem dX12_readAll_177 : decode cX12_readAll 177 = .ok (.iload 4, 2) := by decide +kernel
set_option maxRecDepth 100000 in
theorem dX12_readAll_179 : decode cX12_readAll 179 = .ok (.aload_n 0, 1) := by decide +kernel
set_option maxRecDepth 100000 in
theorem dX12_readAll_180 : decode cX12_readAll 180 = .ok (.getfield 1236, 3) := by decide +kernel
set_option maxRecDepth 100000 in
theorem dX12_readAll_183 : decode cX12_readAll 183 = .ok (.aload 8, 2) := by decide +kernel
set_option maxRecDepth 100000 in
theorem dX12_readAll_185 : decode cX12_readAll 185 = .ok (.aload_n 0, 1) := by decide +kernel
set_option maxRecDepth 100000 in
theorem dX12_readAll_186 : decode cX12_readAll 186 = .ok (.getfield 70, 3) := by decide +kernel
set_option maxRecDepth 100000 in
theorem dX12_readAll_189 : decode cX12_readAll 189 = .ok (.iload_n 1, 1) := by decide +kernel
set_option maxRecDepth 100000 in
theorem dX12_readAll_190 : decode cX12_readAll 190 = .ok (.iaload, 1) := by decide +kernel
set_option maxRecDepth 100000 in
theorem dX12_readAll_191 : decode cX12_readAll 191 = .ok (.aload_n 0, 1) := by decide +kernel
set_option maxRecDepth 100000 in
theorem dX12_readAll_192 : decode cX12_readAll 192 = .ok (.getfield 70, 3) := by decide +kernel
set_option maxRecDepth 100000 in
theorem dX12_readAll_195 : decode cX12_readAll 195 = .ok (.iload 6, 2) := by decide +kernel
set_option maxRecDepth 100000 in
theorem dX12_readAll_197 : decode cX12_readAll 197 = .ok (.iaload, 1) := by decide +kernel
set_option maxRecDepth 100000 in
theorem dX12_readAll_198 : decode cX12_readAll 198 = .ok (.invokevirtual 1442, 3) := by decide +kernel
set_option maxRecDepth 100000 in
theorem dX12_readAll_201 : decode cX12_readAll 201 = .ok (.goto 22, 3) := by decide +kernel
set_option maxRecDepth 100000 in
theorem dX12_readAll_204 : decode cX12_readAll 204 = .ok (.aload_n 0, 1) := by decide +kernel
set_option maxRecDepth 100000 in
theorem dX12_readAll_205 : decode cX12_readAll 205 = .ok (.iload 4, 2) := by decide +kernel
set_option maxRecDepth 100000 in
theorem dX12_readAll_207 : decode cX12_readAll 207 = .ok (.aload_n 0, 1) := by decide +kernel
set_option maxRecDepth 100000 in
theorem dX12_readAll_208 : decode cX12_readAll 208 = .ok (.getfield 1236, 3) := by decide +kernel
set_option maxRecDepth 100000 in
theorem dX12_readAll_211 : decode cX12_readAll 211 = .ok (.aload 8, 2) := by decide +kernel
set_option maxRecDepth 100000 in
theorem dX12_readAll_213 : decode cX12_readAll 213 = .ok (.aload_n 0, 1) := by decide +kernel
set_option maxRecDepth 100000 in
theorem dX12_readAll_214 : decode cX12_readAll 214 = .ok (.getfield 70, 3) := by decide +kernel
set_option maxRecDepth 100000 in
theorem dX12_readAll_217 : decode cX12_readAll 217 = .ok (.iload 6, 2) := by decide +kernel
set_option maxRecDepth 100000 in
theorem dX12_readAll_219 : decode cX12_readAll 219 = .ok (.iaload, 1) := by decide +kernel
set_option maxRecDepth 100000 in
theorem dX12_readAll_220 : decode cX12_readAll 220 = .ok (.invokevirtual 1446, 3) := by decide +kernel
set_option maxRecDepth 100000 in
theorem dX12_readAll_223 : decode cX12_readAll 223 = .ok (.aload_n 0, 1) := by decide +kernel
set_option maxRecDepth 100000 in
theorem dX12_readAll_224 : decode cX12_readAll 224 = .ok (.getfield 1121, 3) := by decide +kernel
set_option maxRecDepth 100000 in
theorem dX12_readAll_227 : decode cX12_readAll 227 = .ok (.ifCond .eq 4, 3) := by decide +kernel
set_option maxRecDepth 100000 in
theorem dX12_readAll_230 : decode cX12_readAll 230 = .ok (.return_, 1) := by decide +kernel
set_option maxRecDepth 100000 in
theorem dX12_readAll_231 : decode cX12_readAll 231 = .ok (.aload_n 0, 1) := by decide +kernel
set_option maxRecDepth 100000 in
theorem dX12_readAll_232 : decode cX12_readAll 232 = .ok (.getfield 79, 3) := by decide +kernel
set_option maxRecDepth 100000 in
theorem dX12_readAll_235 : decode cX12_readAll 235 = .ok (.iload 5, 2) := by decide +kernel
set_option maxRecDepth 100000 in
theorem dX12_readAll_237 : decode cX12_readAll 237 = .ok (.iaload, 1) := by decide +kernel
set_option maxRecDepth 100000 in
theorem dX12_readAll_238 : decode cX12_readAll 238 = .ok (.istore 5, 2) := by decide +kernel
set_option maxRecDepth 100000 in
theorem dX12_readAll_240 : decode cX12_readAll 240 = .ok (.goto (-187), 3) := by decide +kernel
set_option maxRecDepth 100000 in
theorem dX12_readAll_243 : decode cX12_readAll 243 = .ok (.iload_n 2, 1) := by decide +kernel
set_option maxRecDepth 100000 in
theorem dX12_readAll_244 : decode cX12_readAll 244 = .ok (.iconst 1, 1) := by decide +kernel
set_option maxRecDepth 100000 in
theorem dX12_readAll_245 : decode cX12_readAll 245 = .ok (.if_icmp .ne 4, 3) := by decide +kernel
set_option maxRecDepth 100000 in
theorem dX12_readAll_248 : decode cX12_readAll 248 = .ok (.return_, 1) := by decide +kernel
set_option maxRecDepth 100000 in
theorem dX12_readAll_249 : decode cX12_readAll 249 = .ok (.aload_n 0, 1) := by decide +kernel
set_option maxRecDepth 100000 in
theorem dX12_readAll_250 : decode cX12_readAll 250 = .ok (.getfield 204, 3) := by decide +kernel
set_option maxRecDepth 100000 in
theorem dX12_readAll_253 : decode cX12_readAll 253 = .ok (.iload 4, 2) := by decide +kernel
set_option maxRecDepth 100000 in
theorem dX12_readAll_255 : decode cX12_readAll 255 = .ok (.iaload, 1) := by decide +kernel
set_option maxRecDepth 100000 in
theorem dX12_readAll_256 : decode cX12_readAll 256 = .ok (.iconst 1, 1) := by decide +kernel
set_option maxRecDepth 100000 in
theorem dX12_readAll_257 : decode cX12_readAll 257 = .ok (.if_icmp .ne 14, 3) := by decide +kernel
set_option maxRecDepth 100000 in
theorem dX12_readAll_260 : decode cX12_readAll 260 = .ok (.aload_n 0, 1) := by decide +kernel
set_option maxRecDepth 100000 in
theorem dX12_readAll_261 : decode cX12_readAll 261 = .ok (.getfield 213, 3) := by decide +kernel
set_option maxRecDepth 100000 in
theorem dX12_readAll_264 : decode cX12_readAll 264 = .ok (.iload 4, 2) := by decide +kernel
set_option maxRecDepth 100000 in
theorem dX12_readAll_266 : decode cX12_readAll 266 = .ok (.iaload, 1) := by decide +kernel
set_option maxRecDepth 100000 in
theorem dX12_readAll_267 : decode cX12_readAll 267 = .ok (.iconst (-1), 1) := by decide +kernel
set_option maxRecDepth 100000 in
theorem dX12_readAll_268 : decode cX12_readAll 268 = .ok (.if_icmp .ne 16, 3) := by decide +kernel
set_option maxRecDepth 100000 in
theorem dX12_readAll_271 : decode cX12_readAll 271 = .ok (.aload_n 0, 1) := by decide +kernel
set_option maxRecDepth 100000 in
theorem dX12_readAll_272 : decode cX12_readAll 272 = .ok (.bipush 10, 2) := by decide +kernel
set_option maxRecDepth 100000 in
theorem dX12_readAll_274 : decode cX12_readAll 274 = .ok (.aload_n 0, 1) := by decide +kernel
set_option maxRecDepth 100000 in
theorem dX12_readAll_275 : decode cX12_readAll 275 = .ok (.getfield 70, 3) := by decide +kernel
set_option maxRecDepth 100000 in
theorem dX12_readAll_278 : decode cX12_readAll 278 = .ok (.iload_n 1, 1) := by decide +kernel
set_option maxRecDepth 100000 in
theorem dX12_readAll_279 : decode cX12_readAll 279 = .ok (.iaload, 1) := by decide +kernel
set_option maxRecDepth 100000 in
theorem dX12_readAll_280 : decode cX12_readAll 280 = .ok (.invokevirtual 1142, 3) := by decide +kernel
set_option maxRecDepth 100000 in
theorem dX12_readAll_283 : decode cX12_readAll 283 = .ok (.return_, 1) := by decide +kernel
set_option maxRecDepth 100000 in
theorem dX12_readAll_284 : decode cX12_readAll 284 = .ok (.aload_n 0, 1) := by decide +kernel
set_option maxRecDepth 100000 in
theorem dX12_readAll_285 : decode cX12_readAll 285 = .ok (.getfield 229, 3) := by decide +kernel
set_option maxRecDepth 100000 in
theorem dX12_readAll_288 : decode cX12_readAll 288 = .ok (.aload_n 0, 1) := by decide +kernel
set_option maxRecDepth 100000 in
theorem dX12_readAll_289 : decode cX12_readAll 289 = .ok (.getfield 213, 3) := by decide +kernel
set_option maxRecDepth 100000 in
theorem dX12_readAll_292 : decode cX12_readAll 292 = .ok (.iload 4, 2) := by decide +kernel
set_option maxRecDepth 100000 in
theorem dX12_readAll_294 : decode cX12_readAll 294 = .ok (.iaload, 1) := by decide +kernel
set_option maxRecDepth 100000 in
theorem dX12_readAll_295 : decode cX12_readAll 295 = .ok (.laload, 1) := by decide +kernel
set_option maxRecDepth 100000 in
theorem dX12_readAll_296 : decode cX12_readAll 296 = .ok (.ldc2_w 389, 3) := by decide +kernel
set_option maxRecDepth 100000 in
theorem dX12_readAll_299 : decode cX12_readAll 299 = .ok (.lcmp, 1) := by decide +kernel
set_option maxRecDepth 100000 in
theorem dX12_readAll_300 : decode cX12_readAll 300 = .ok (.ifCond .eq 12, 3) := by decide +kernel
set_option maxRecDepth 100000 in
theorem dX12_readAll_303 : decode cX12_readAll 303 = .ok (.aload_n 0, 1) := by decide +kernel
set_option maxRecDepth 100000 in
theorem dX12_readAll_304 : decode cX12_readAll 304 = .ok (.iload 4, 2) := by decide +kernel
set_option maxRecDepth 100000 in
theorem dX12_readAll_306 : decode cX12_readAll 306 = .ok (.invokevirtual 1207, 3) := by decide +kernel
set_option maxRecDepth 100000 in
theorem dX12_readAll_309 : decode cX12_readAll 309 = .ok (.goto (-25), 3) := by decide +kernel
set_option maxRecDepth 100000 in
theorem dX12_readAll_312 : decode cX12_readAll 312 = .ok (.aload_n 0, 1) := by decide +kernel
set_option maxRecDepth 100000 in
theorem dX12_readAll_313 : decode cX12_readAll 313 = .ok (.iload 4, 2) := by decide +kernel
set_option maxRecDepth 100000 in
theorem dX12_readAll_315 : decode cX12_readAll 315 = .ok (.invokevirtual 1207, 3) := by decide +kernel
set_option maxRecDepth 100000 in
theorem dX12_readAll_318 : decode cX12_readAll 318 = .ok (.aload_n 0, 1) := by decide +kernel
set_option maxRecDepth 100000 in
theorem dX12_readAll_319 : decode cX12_readAll 319 = .ok (.iload 4, 2) := by decide +kernel
set_option maxRecDepth 100000 in
theorem dX12_readAll_321 : decode cX12_readAll 321 = .ok (.invokevirtual 1201, 3) := by decide +kernel
set_option maxRecDepth 100000 in
theorem dX12_readAll_324 : decode cX12_readAll 324 = .ok (.return_, 1) := by decide +kernel
def lX12_readAll_53 (G : xG) (fr lo : Nat) (x0 : Nat) (x1 : Int32) (x2 : Int32) (x4 : Int32) (x5 : Int32) (h : xH) (Q : Outcome → xH → Prop) : Prop := xP G YX12_readAll fr lo 53 [(0, rv x0), (1, .int x1), (2, .int x2), (4, .int x4), (5, .int x5)] [] h Q
def lX12_readAll_284 (G : xG) (fr lo : Nat) (x0 : Nat) (x4 : Int32) (h : xH) (Q : Outcome → xH → Prop) : Prop := xP G YX12_readAll fr lo 284 [(0, rv x0), (4, .int x4)] [] h Q
set_option maxRecDepth 100000 in
def bX12_readAll_284 (G : xG) (fr lo : Nat) (x0 : Nat) (x4 : Int32) (h : xH) (Q : Outcome → xH → Prop) : Prop := tg h x0 = 13 ∧ tg h (fR h x0 3185) = 100 ∧ vp_in x4 (ln h (fR h x0 3185)) ∧ tg h (fR h x0 3192) = 101 ∧ vp_in (aI h (fR h x0 3185) (Int32.toNatClampNeg x4)) (ln h (fR h x0 3192)) ∧ (((lg_cmp (aJ h (fR h x0 3192) (Int32.toNatClampNeg (aI h (fR h x0 3185) (Int32.toNatClampNeg x4)))) 10) = 0 → 1 ≤ fr ∧ 15 ≤ lo ∧ xRv G YX12_goOn (fr - 1) (lo - 15) [rv x0, .int x4] h (fun h9 => xext h h9 → 1 ≤ fr ∧ 17 ≤ lo ∧ xRv G YX12_bringBuffer (fr - 1) (lo - 17) [rv x0, .int x4] h9 (fun h15 => xext h9 h15 → Q (.returned none) h15) (fun r h2 => Q (.threw r) h2)) (fun r h2 => Q (.threw r) h2)) ∧ (¬ (lg_cmp (aJ h (fR h x0 3192) (Int32.toNatClampNeg (aI h (fR h x0 3185) (Int32.toNatClampNeg x4)))) 10) = 0 → 1 ≤ fr ∧ 15 ≤ lo ∧ xRv G YX12_goOn (fr - 1) (lo - 15) [rv x0, .int x4] h (fun h20 => xext h h20 → lX12_readAll_284 G fr lo x0 x4 h20 Q) (fun r h2 => Q (.threw r) h2)))
set_option maxRecDepth 100000 in
theorem uX12_readAll_284 {G : xG} {fr lo : Nat} {x0 : Nat} {x4 : Int32} {h : xH} {Q : Outcome → xH → Prop} (hq : bX12_readAll_284 G fr lo x0 x4 h Q) : xP G YX12_readAll fr lo 284 [(0, rv x0), (4, .int x4)] [] h Q := by
  unfold bX12_readAll_284 at hq
  refine x_aload_n 0 dX12_readAll_284 rfl ?_
  obtain ⟨g1, hq⟩ := hq
  refine x_get (v := rv (fR h x0 3192)) fdX12_229 dX12_readAll_285 g1 rfl ?_
  refine x_aload_n 0 dX12_readAll_288 rfl ?_
  refine x_get (v := rv (fR h x0 3185)) fdX12_213 dX12_readAll_289 g1 rfl ?_
  refine x_iload 1 dX12_readAll_292 rfl ?_
  obtain ⟨g2, hq⟩ := hq
  obtain ⟨i3, hq⟩ := hq
  refine x_iald 0 (Or.inl rfl) g2 i3 dX12_readAll_294 ?_
  obtain ⟨g4, hq⟩ := hq
  obtain ⟨i5, hq⟩ := hq
  refine x_lald g4 i5 dX12_readAll_295 ?_
  refine x_ldc2 (v := 10) q3750 dX12_readAll_296 ?_
  refine x_lcmp dX12_readAll_299 ?_
  refine x_if_eq (tgt := 312) dX12_readAll_300 (by decide) (fun c6 => ?_) (fun c6 => ?_)
  · replace hq := hq.1 c6
    refine x_aload_n 0 dX12_readAll_312 rfl ?_
    refine x_iload 1 dX12_readAll_313 rfl ?_
    obtain ⟨g7, g8, hq⟩ := hq
    refine x_callV (Yc := YX12_goOn) (as := [.int x4]) (st := []) q4737 mvX12_goOn g1 rfl dX12_readAll_315 (xle (xal1 (rv_cat _) (xal1 rfl xal0)) (by decide)) (xfr g7) (xlo xsw0 (by decide) g8) (xKv hq (fun h9 hq e11 => ?_) (fun _ _ q _ => q))
    replace hq := hq e11
    refine x_aload_n 0 dX12_readAll_318 rfl ?_
    refine x_iload 1 dX12_readAll_319 rfl ?_
    have t12 : tg h9 x0 = 13 := e11.tg g1 (by decide)
    obtain ⟨g13, g14, hq⟩ := hq
    refine x_callV (Yc := YX12_bringBuffer) (as := [.int x4]) (st := []) q4526 mvX12_bringBuffer t12 rfl dX12_readAll_321 (xle (xal1 (rv_cat _) (xal1 rfl xal0)) (by decide)) (xfr g13) (xlo xsw0 (by decide) g14) (xKv hq (fun h15 hq e17 => ?_) (fun _ _ q _ => q))
    replace hq := hq e17
    exact x_vret rfl dX12_readAll_324 hq
  · replace hq := hq.2 c6
    refine x_aload_n 0 dX12_readAll_303 rfl ?_
    refine x_iload 1 dX12_readAll_304 rfl ?_
    obtain ⟨g18, g19, hq⟩ := hq
    refine x_callV (Yc := YX12_goOn) (as := [.int x4]) (st := []) q4737 mvX12_goOn g1 rfl dX12_readAll_306 (xle (xal1 (rv_cat _) (xal1 rfl xal0)) (by decide)) (xfr g18) (xlo xsw0 (by decide) g19) (xKv hq (fun h20 hq e22 => ?_) (fun _ _ q _ => q))
    replace hq := hq e22
    refine x_goto (tgt := 284) dX12_readAll_309 (by decide) ?_
    exact hq
set_option maxRecDepth 100000 in
def bX12_readAll_271 (G : xG) (fr lo : Nat) (x0 : Nat) (x1 : Int32) (h : xH) (Q : Outcome → xH → Prop) : Prop := tg h x0 = 13 ∧ tg h (fR h x0 3102) = 100 ∧ vp_in x1 (ln h (fR h x0 3102)) ∧ 1 ≤ fr ∧ 14 ≤ lo ∧ xRv G YX12_error (fr - 1) (lo - 14) [rv x0, .int 10, .int (aI h (fR h x0 3102) (Int32.toNatClampNeg x1))] h (fun h6 => xext h h6 → Q (.returned none) h6) (fun r h2 => Q (.threw r) h2)
set_option maxRecDepth 100000 in
theorem uX12_readAll_271 {G : xG} {fr lo : Nat} {x0 : Nat} {x1 : Int32} {h : xH} {Q : Outcome → xH → Prop} (hq : bX12_readAll_271 G fr lo x0 x1 h Q) : xP G YX12_readAll fr lo 271 [(0, rv x0), (1, .int x1)] [] h Q := by
  unfold bX12_readAll_271 at hq
  refine x_aload_n 0 dX12_readAll_271 rfl ?_
  refine x_bipush (v := 10) dX12_readAll_272 (by decide) ?_
  refine x_aload_n 0 dX12_readAll_274 rfl ?_
  obtain ⟨g1, hq⟩ := hq
  refine x_get (v := rv (fR h x0 3102)) fdX12_70 dX12_readAll_275 g1 rfl ?_
  refine x_iload_n 1 dX12_readAll_278 rfl ?_
  obtain ⟨g2, hq⟩ := hq
  obtain ⟨i3, hq⟩ := hq
  refine x_iald 0 (Or.inl rfl) g2 i3 dX12_readAll_279 ?_
  obtain ⟨g4, g5, hq⟩ := hq
  refine x_callV (Yc := YX12_error) (as := [.int 10, .int (aI h (fR h x0 3102) (Int32.toNatClampNeg x1))]) (st := []) q4490 mvX12_error g1 rfl dX12_readAll_280 (xle (xal1 (rv_cat _) (xal1 rfl (xal1 rfl xal0))) (by decide)) (xfr g4) (xlo xsw0 (by decide) g5) (xKv hq (fun h6 hq e8 => ?_) (fun _ _ q _ => q))
  replace hq := hq e8
  exact x_vret rfl dX12_readAll_283 hq
set_option maxRecDepth 100000 in
def bX12_readAll_223 (G : xG) (fr lo : Nat) (x0 : Nat) (x1 : Int32) (x2 : Int32) (x4 : Int32) (x5 : Int32) (h : xH) (Q : Outcome → xH → Prop) : Prop := tg h x0 = 13 ∧ (((fI h x0 3170) = 0 → tg h (fR h x0 3105) = 100 ∧ vp_in x5 (ln h (fR h x0 3105)) ∧ lX12_readAll_53 G fr lo x0 x1 x2 x4 (aI h (fR h x0 3105) (Int32.toNatClampNeg x5)) h Q) ∧ (¬ (fI h x0 3170) = 0 → Q (.returned none) h))
set_option maxRecDepth 100000 in
theorem uX12_readAll_223 {G : xG} {fr lo : Nat} {x0 : Nat} {x1 : Int32} {x2 : Int32} {x4 : Int32} {x5 : Int32} {h : xH} {Q : Outcome → xH → Prop} (hq : bX12_readAll_223 G fr lo x0 x1 x2 x4 x5 h Q) : xP G YX12_readAll fr lo 223 [(0, rv x0), (1, .int x1), (2, .int x2), (4, .int x4), (5, .int x5)] [] h Q := by
  unfold bX12_readAll_223 at hq
  refine x_aload_n 0 dX12_readAll_223 rfl ?_
  obtain ⟨g1, hq⟩ := hq
  refine x_get (v := .int (fI h x0 3170)) fdX12_1121 dX12_readAll_224 g1 rfl ?_
  refine x_if_eq (tgt := 231) dX12_readAll_227 (by decide) (fun c2 => ?_) (fun c2 => ?_)
  · replace hq := hq.1 c2
    refine x_aload_n 0 dX12_readAll_231 rfl ?_
    refine x_get (v := rv (fR h x0 3105)) fdX12_79 dX12_readAll_232 g1 rfl ?_
    refine x_iload 4 dX12_readAll_235 rfl ?_
    obtain ⟨g3, hq⟩ := hq
    obtain ⟨i4, hq⟩ := hq
    refine x_iald 0 (Or.inl rfl) g3 i4 dX12_readAll_237 ?_
    refine x_istore (lv' := [(5, .int (aI h (fR h x0 3105) (Int32.toNatClampNeg x5))), (0, rv x0), (1, .int x1), (2, .int x2), (4, .int x4)]) dX12_readAll_238 (by decide) rfl ?_
    refine x_goto (tgt := 53) dX12_readAll_240 (by decide) ?_
    refine xP.pick (lv' := [(0, rv x0), (1, .int x1), (2, .int x2), (4, .int x4), (5, .int (aI h (fR h x0 3105) (Int32.toNatClampNeg x5)))]) [1, 2, 3, 4, 0] rfl ?_
    exact hq
  · replace hq := hq.2 c2
    exact x_vret rfl dX12_readAll_230 hq
set_option maxRecDepth 100000 in
def bX12_readAll_171 (G : xG) (fr lo : Nat) (x0 : Nat) (x1 : Int32) (x2 : Int32) (x4 : Int32) (x5 : Int32) (x6 : Int32) (x8 : Nat) (x9 : Int32) (h : xH) (Q : Outcome → xH → Prop) : Prop := ((x9 = 0 → tg h x0 = 13 ∧ tg h (fR h x0 3102) = 100 ∧ vp_in x6 (ln h (fR h x0 3102)) ∧ 1 ≤ fr ∧ 17 ≤ lo ∧ xRv G YX12_readPart (fr - 1) (lo - 17) [rv x0, .int x4, .int (fI h x0 3181), rv x8, .int (aI h (fR h x0 3102) (Int32.toNatClampNeg x6))] h (fun h7 => xext h h7 → bX12_readAll_223 G fr lo x0 x1 x2 x4 x5 h7 Q) (fun r h2 => Q (.threw r) h2)) ∧ (¬ x9 = 0 → tg h x0 = 13 ∧ tg h (fR h x0 3102) = 100 ∧ vp_in x1 (ln h (fR h x0 3102)) ∧ vp_in x6 (ln h (fR h x0 3102)) ∧ 1 ≤ fr ∧ 31 ≤ lo ∧ xRv G YX12_readNumber (fr - 1) (lo - 31) [rv x0, .int x4, .int (fI h x0 3181), rv x8, .int (aI h (fR h x0 3102) (Int32.toNatClampNeg x1)), .int (aI h (fR h x0 3102) (Int32.toNatClampNeg x6))] h (fun h16 => xext h h16 → bX12_readAll_223 G fr lo x0 x1 x2 x4 x5 h16 Q) (fun r h2 => Q (.threw r) h2)))
set_option maxRecDepth 100000 in
theorem uX12_readAll_171 {G : xG} {fr lo : Nat} {x0 : Nat} {x1 : Int32} {x2 : Int32} {x4 : Int32} {x5 : Int32} {x6 : Int32} {x8 : Nat} {x9 : Int32} {h : xH} {Q : Outcome → xH → Prop} (hq : bX12_readAll_171 G fr lo x0 x1 x2 x4 x5 x6 x8 x9 h Q) : xP G YX12_readAll fr lo 171 [(0, rv x0), (1, .int x1), (2, .int x2), (4, .int x4), (5, .int x5), (6, .int x6), (8, rv x8), (9, .int x9)] [] h Q := by
  unfold bX12_readAll_171 at hq
  refine x_iload 7 dX12_readAll_171 rfl ?_
  refine x_if_eq (tgt := 204) dX12_readAll_173 (by decide) (fun c1 => ?_) (fun c1 => ?_)
  · replace hq := hq.1 c1
    refine x_aload_n 0 dX12_readAll_204 rfl ?_
    refine x_iload 3 dX12_readAll_205 rfl ?_
    refine x_aload_n 0 dX12_readAll_207 rfl ?_
    obtain ⟨g2, hq⟩ := hq
    refine x_get (v := .int (fI h x0 3181)) fdX12_1236 dX12_readAll_208 g2 rfl ?_
    refine x_aload 6 dX12_readAll_211 rfl ?_
    refine x_aload_n 0 dX12_readAll_213 rfl ?_
    refine x_get (v := rv (fR h x0 3102)) fdX12_70 dX12_readAll_214 g2 rfl ?_
    refine x_iload 5 dX12_readAll_217 rfl ?_
    obtain ⟨g3, hq⟩ := hq
    obtain ⟨i4, hq⟩ := hq
    refine x_iald 0 (Or.inl rfl) g3 i4 dX12_readAll_219 ?_
    obtain ⟨g5, g6, hq⟩ := hq
    refine x_callV (Yc := YX12_readPart) (as := [.int x4, .int (fI h x0 3181), rv x8, .int (aI h (fR h x0 3102) (Int32.toNatClampNeg x6))]) (st := []) q4752 mvX12_readPart g2 rfl dX12_readAll_220 (xle (xal1 (rv_cat _) (xal1 rfl (xal1 rfl (xal1 (rv_cat _) (xal1 rfl xal0))))) (by decide)) (xfr g5) (xlo xsw0 (by decide) g6) (xKv hq (fun h7 hq e9 => ?_) (fun _ _ q _ => q))
    replace hq := hq e9
    refine xP.pick (lv' := [(0, rv x0), (1, .int x1), (2, .int x2), (4, .int x4), (5, .int x5)]) [0, 1, 2, 3, 4] rfl ?_
    exact uX12_readAll_223 hq
  · replace hq := hq.2 c1
    refine x_aload_n 0 dX12_readAll_176 rfl ?_
    refine x_iload 3 dX12_readAll_177 rfl ?_
    refine x_aload_n 0 dX12_readAll_179 rfl ?_
    obtain ⟨g10, hq⟩ := hq
    refine x_get (v := .int (fI h x0 3181)) fdX12_1236 dX12_readAll_180 g10 rfl ?_
    refine x_aload 6 dX12_readAll_183 rfl ?_
    refine x_aload_n 0 dX12_readAll_185 rfl ?_
    refine x_get (v := rv (fR h x0 3102)) fdX12_70 dX12_readAll_186 g10 rfl ?_
    refine x_iload_n 1 dX12_readAll_189 rfl ?_
    obtain ⟨g11, hq⟩ := hq
    obtain ⟨i12, hq⟩ := hq
    refine x_iald 0 (Or.inl rfl) g11 i12 dX12_readAll_190 ?_
    refine x_aload_n 0 dX12_readAll_191 rfl ?_
    refine x_get (v := rv (fR h x0 3102)) fdX12_70 dX12_readAll_192 g10 rfl ?_
    refine x_iload 5 dX12_readAll_195 rfl ?_
    obtain ⟨i13, hq⟩ := hq
    refine x_iald 0 (Or.inl rfl) g11 i13 dX12_readAll_197 ?_
    obtain ⟨g14, g15, hq⟩ := hq
    refine x_callV (Yc := YX12_readNumber) (as := [.int x4, .int (fI h x0 3181), rv x8, .int (aI h (fR h x0 3102) (Int32.toNatClampNeg x1)), .int (aI h (fR h x0 3102) (Int32.toNatClampNeg x6))]) (st := []) q4729 mvX12_readNumber g10 rfl dX12_readAll_198 (xle (xal1 (rv_cat _) (xal1 rfl (xal1 rfl (xal1 (rv_cat _) (xal1 rfl (xal1 rfl xal0)))))) (by decide)) (xfr g14) (xlo xsw0 (by decide) g15) (xKv hq (fun h16 hq e18 => ?_) (fun _ _ q _ => q))
    replace hq := hq e18
    refine x_goto (tgt := 223) dX12_readAll_201 (by decide) ?_
    refine xP.pick (lv' := [(0, rv x0), (1, .int x1), (2, .int x2), (4, .int x4), (5, .int x5)]) [0, 1, 2, 3, 4] rfl ?_
    exact uX12_readAll_223 hq
set_option maxRecDepth 100000 in
def bX12_readAll_158 (G : xG) (fr lo : Nat) (x0 : Nat) (x1 : Int32) (h : xH) (Q : Outcome → xH → Prop) : Prop := tg h x0 = 13 ∧ tg h (fR h x0 3102) = 100 ∧ vp_in x1 (ln h (fR h x0 3102)) ∧ 1 ≤ fr ∧ 14 ≤ lo ∧ xRv G YX12_error (fr - 1) (lo - 14) [rv x0, .int 10, .int (aI h (fR h x0 3102) (Int32.toNatClampNeg x1))] h (fun h6 => xext h h6 → Q (.returned none) h6) (fun r h2 => Q (.threw r) h2)
set_option maxRecDepth 100000 in
theorem uX12_readAll_158 {G : xG} {fr lo : Nat} {x0 : Nat} {x1 : Int32} {h : xH} {Q : Outcome → xH → Prop} (hq : bX12_readAll_158 G fr lo x0 x1 h Q) : xP G YX12_readAll fr lo 158 [(0, rv x0), (1, .int x1)] [] h Q := by
  unfold bX12_readAll_158 at hq
  refine x_aload_n 0 dX12_readAll_158 rfl ?_
  refine x_bipush (v := 10) dX12_readAll_159 (by decide) ?_
  refine x_aload_n 0 dX12_readAll_161 rfl ?_
  obtain ⟨g1, hq⟩ := hq
  refine x_get (v := rv (fR h x0 3102)) fdX12_70 dX12_readAll_162 g1 rfl ?_
  refine x_iload_n 1 dX12_readAll_165 rfl ?_
  obtain ⟨g2, hq⟩ := hq
  obtain ⟨i3, hq⟩ := hq
  refine x_iald 0 (Or.inl rfl) g2 i3 dX12_readAll_166 ?_
  obtain ⟨g4, g5, hq⟩ := hq
  refine x_callV (Yc := YX12_error) (as := [.int 10, .int (aI h (fR h x0 3102) (Int32.toNatClampNeg x1))]) (st := []) q4490 mvX12_error g1 rfl dX12_readAll_167 (xle (xal1 (rv_cat _) (xal1 rfl (xal1 rfl xal0))) (by decide)) (xfr g4) (xlo xsw0 (by decide) g5) (xKv hq (fun h6 hq e8 => ?_) (fun _ _ q _ => q))
  replace hq := hq e8
  exact x_vret rfl dX12_readAll_170 hq
set_option maxRecDepth 100000 in
def bX12_readAll_129 (G : xG) (fr lo : Nat) (x0 : Nat) (x1 : Int32) (x2 : Int32) (x4 : Int32) (x5 : Int32) (x6 : Int32) (x8 : Nat) (s0 : Int32) (h : xH) (Q : Outcome → xH → Prop) : Prop := tg h x0 = 13 ∧ tg h (fR h x0 3182) = 100 ∧ vp_in x4 (ln h (fR h x0 3182)) ∧ ((¬ (aI h (fR h x0 3182) (Int32.toNatClampNeg x4)) = 1 → bX12_readAll_158 G fr lo x0 x1 h Q) ∧ ((aI h (fR h x0 3182) (Int32.toNatClampNeg x4)) = 1 → ((¬ s0 = 0 → bX12_readAll_171 G fr lo x0 x1 x2 x4 x5 x6 x8 s0 h Q) ∧ (s0 = 0 → tg h (fR h x0 3185) = 100 ∧ vp_in x4 (ln h (fR h x0 3185)) ∧ ((¬ (aI h (fR h x0 3185) (Int32.toNatClampNeg x4)) = (-1) → bX12_readAll_171 G fr lo x0 x1 x2 x4 x5 x6 x8 s0 h Q) ∧ ((aI h (fR h x0 3185) (Int32.toNatClampNeg x4)) = (-1) → bX12_readAll_158 G fr lo x0 x1 h Q))))))
set_option maxRecDepth 100000 in
theorem uX12_readAll_129 {G : xG} {fr lo : Nat} {x0 : Nat} {x1 : Int32} {x2 : Int32} {x4 : Int32} {x5 : Int32} {x6 : Int32} {x8 : Nat} {s0 : Int32} {h : xH} {Q : Outcome → xH → Prop} (hq : bX12_readAll_129 G fr lo x0 x1 x2 x4 x5 x6 x8 s0 h Q) : xP G YX12_readAll fr lo 129 [(0, rv x0), (1, .int x1), (2, .int x2), (4, .int x4), (5, .int x5), (6, .int x6), (8, rv x8)] [.int s0] h Q := by
  unfold bX12_readAll_129 at hq
  refine x_istore (lv' := [(9, .int s0), (0, rv x0), (1, .int x1), (2, .int x2), (4, .int x4), (5, .int x5), (6, .int x6), (8, rv x8)]) dX12_readAll_129 (by decide) (by first | rfl | (simp [rv_cat, Value.category]; done) | (simp [rv_cat, Value.category]; decide)) ?_
  refine x_aload_n 1 dX12_readAll_131 rfl ?_
  obtain ⟨g1, hq⟩ := hq
  refine x_get (v := rv (fR h x0 3182)) fdX12_204 dX12_readAll_132 g1 rfl ?_
  refine x_iload 4 dX12_readAll_135 rfl ?_
  obtain ⟨g2, hq⟩ := hq
  obtain ⟨i3, hq⟩ := hq
  refine x_iald 0 (Or.inl rfl) g2 i3 dX12_readAll_137 ?_
  refine x_iconst (v := 1) dX12_readAll_138 (by decide) ?_
  refine x_icmp_ne (tgt := 158) dX12_readAll_139 (by decide) (fun c4 => ?_) (fun c4 => ?_)
  · replace hq := hq.1 c4
    refine xP.pick (lv' := [(0, rv x0), (1, .int x1)]) [1, 2] rfl ?_
    exact uX12_readAll_158 hq
  · replace hq := hq.2 c4
    refine x_iload 0 dX12_readAll_142 rfl ?_
    refine x_if_ne (tgt := 171) dX12_readAll_144 (by decide) (fun c5 => ?_) (fun c5 => ?_)
    · replace hq := hq.1 c5
      refine xP.pick (lv' := [(0, rv x0), (1, .int x1), (2, .int x2), (4, .int x4), (5, .int x5), (6, .int x6), (8, rv x8), (9, .int s0)]) [1, 2, 3, 4, 5, 6, 7, 0] rfl ?_
      exact uX12_readAll_171 hq
    · replace hq := hq.2 c5
      refine x_aload_n 1 dX12_readAll_147 rfl ?_
      refine x_get (v := rv (fR h x0 3185)) fdX12_213 dX12_readAll_148 g1 rfl ?_
      refine x_iload 4 dX12_readAll_151 rfl ?_
      obtain ⟨g6, hq⟩ := hq
      obtain ⟨i7, hq⟩ := hq
      refine x_iald 0 (Or.inl rfl) g6 i7 dX12_readAll_153 ?_
      refine x_iconst (v := (-1)) dX12_readAll_154 (by decide) ?_
      refine x_icmp_ne (tgt := 171) dX12_readAll_155 (by decide) (fun c8 => ?_) (fun c8 => ?_)
      · replace hq := hq.1 c8
        refine xP.pick (lv' := [(0, rv x0), (1, .int x1), (2, .int x2), (4, .int x4), (5, .int x5), (6, .int x6), (8, rv x8), (9, .int s0)]) [1, 2, 3, 4, 5, 6, 7, 0] rfl ?_
        exact uX12_readAll_171 hq
      · replace hq := hq.2 c8
        refine xP.pick (lv' := [(0, rv x0), (1, .int x1)]) [1, 2] rfl ?_
        exact uX12_readAll_158 hq
set_option maxRecDepth 100000 in
def bX12_readAll_128 (G : xG) (fr lo : Nat) (x0 : Nat) (x1 : Int32) (x2 : Int32) (x4 : Int32) (x5 : Int32) (x6 : Int32) (x8 : Nat) (h : xH) (Q : Outcome → xH → Prop) : Prop := bX12_readAll_129 G fr lo x0 x1 x2 x4 x5 x6 x8 0 h Q
set_option maxRecDepth 100000 in
theorem uX12_readAll_128 {G : xG} {fr lo : Nat} {x0 : Nat} {x1 : Int32} {x2 : Int32} {x4 : Int32} {x5 : Int32} {x6 : Int32} {x8 : Nat} {h : xH} {Q : Outcome → xH → Prop} (hq : bX12_readAll_128 G fr lo x0 x1 x2 x4 x5 x6 x8 h Q) : xP G YX12_readAll fr lo 128 [(0, rv x0), (1, .int x1), (2, .int x2), (4, .int x4), (5, .int x5), (6, .int x6), (8, rv x8)] [] h Q := by
  unfold bX12_readAll_128 at hq
  refine x_iconst (v := 0) dX12_readAll_128 (by decide) ?_
  exact uX12_readAll_129 hq
set_option maxRecDepth 100000 in
def bX12_readAll_53 (G : xG) (fr lo : Nat) (x0 : Nat) (x1 : Int32) (x2 : Int32) (x4 : Int32) (x5 : Int32) (h : xH) (Q : Outcome → xH → Prop) : Prop := ((x5 = (-1) → ((¬ x2 = 1 → tg h x0 = 13 ∧ tg h (fR h x0 3182) = 100 ∧ vp_in x4 (ln h (fR h x0 3182)) ∧ ((¬ (aI h (fR h x0 3182) (Int32.toNatClampNeg x4)) = 1 → bX12_readAll_271 G fr lo x0 x1 h Q) ∧ ((aI h (fR h x0 3182) (Int32.toNatClampNeg x4)) = 1 → tg h (fR h x0 3185) = 100 ∧ vp_in x4 (ln h (fR h x0 3185)) ∧ ((¬ (aI h (fR h x0 3185) (Int32.toNatClampNeg x4)) = (-1) → lX12_readAll_284 G fr lo x0 x4 h Q) ∧ ((aI h (fR h x0 3185) (Int32.toNatClampNeg x4)) = (-1) → bX12_readAll_271 G fr lo x0 x1 h Q))))) ∧ (x2 = 1 → Q (.returned none) h))) ∧ (¬ x5 = (-1) → tg h x0 = 13 ∧ tg h (fR h x0 3103) = 100 ∧ vp_in x5 (ln h (fR h x0 3103)) ∧ 1 ≤ fr ∧ 15 ≤ lo ∧ xRi G YX12_loneVariable (fr - 1) (lo - 15) [rv x0, .int (aI h (fR h x0 3103) (Int32.toNatClampNeg x5))] h (fun x16 h15 => xext h h15 → 1 ≤ fr ∧ 17 ≤ lo ∧ xRv G YX12_find1 (fr - 1) (lo - 17) [rv x0, .int x16] h15 (fun h21 => xext h15 h21 → (((fI h21 x0 3170) = 0 → tg h21 (fR h21 x0 3113) = 108 ∧ vp_in x16 (ln h21 (fR h21 x0 3113)) ∧ tg h21 (fR h21 x0 3189) = 108 ∧ vp_in x4 (ln h21 (fR h21 x0 3189)) ∧ tg h21 (aR h21 (fR h21 x0 3189) (Int32.toNatClampNeg x4)) = 14 ∧ 1 ≤ fr ∧ 12 ≤ lo ∧ xRi G YX13_isText (fr - 1) (lo - 12) [rv (aR h21 (fR h21 x0 3189) (Int32.toNatClampNeg x4))] h21 (fun x34 h33 => xext h21 h33 → ((x34 = 0 → bX12_readAll_128 G fr lo x0 x1 x2 x4 x5 (aI h (fR h x0 3103) (Int32.toNatClampNeg x5)) (aR h21 (fR h21 x0 3113) (Int32.toNatClampNeg x16)) h33 Q) ∧ (¬ x34 = 0 → tg h33 (aR h21 (fR h21 x0 3113) (Int32.toNatClampNeg x16)) = 14 ∧ 1 ≤ fr ∧ 12 ≤ lo ∧ xRr G YX13_own (fr - 1) (lo - 12) [rv (aR h21 (fR h21 x0 3113) (Int32.toNatClampNeg x16))] h33 (fun x41 h40 => xext h33 h40 → tg h40 x41 = 14 ∧ (((fI h40 x41 3328) = 4 → bX12_readAll_128 G fr lo x0 x1 x2 x4 x5 (aI h (fR h x0 3103) (Int32.toNatClampNeg x5)) (aR h21 (fR h21 x0 3113) (Int32.toNatClampNeg x16)) h40 Q) ∧ (¬ (fI h40 x41 3328) = 4 → bX12_readAll_129 G fr lo x0 x1 x2 x4 x5 (aI h (fR h x0 3103) (Int32.toNatClampNeg x5)) (aR h21 (fR h21 x0 3113) (Int32.toNatClampNeg x16)) 1 h40 Q))) (fun r h2 => Q (.threw r) h2)))) (fun r h2 => Q (.threw r) h2)) ∧ (¬ (fI h21 x0 3170) = 0 → Q (.returned none) h21))) (fun r h2 => Q (.threw r) h2)) (fun r h2 => Q (.threw r) h2)))
set_option maxRecDepth 100000 in
theorem uX12_readAll_53 {G : xG} {fr lo : Nat} {x0 : Nat} {x1 : Int32} {x2 : Int32} {x4 : Int32} {x5 : Int32} {h : xH} {Q : Outcome → xH → Prop} (hq : bX12_readAll_53 G fr lo x0 x1 x2 x4 x5 h Q) : xP G YX12_readAll fr lo 53 [(0, rv x0), (1, .int x1), (2, .int x2), (4, .int x4), (5, .int x5)] [] h Q := by
  unfold bX12_readAll_53 at hq
  refine x_iload 4 dX12_readAll_53 rfl ?_
  refine x_iconst (v := (-1)) dX12_readAll_55 (by decide) ?_
  refine x_icmp_eq (tgt := 243) dX12_readAll_56 (by decide) (fun c1 => ?_) (fun c1 => ?_)
  · replace hq := hq.1 c1
    refine x_iload_n 2 dX12_readAll_243 rfl ?_
    refine x_iconst (v := 1) dX12_readAll_244 (by decide) ?_
    refine x_icmp_ne (tgt := 249) dX12_readAll_245 (by decide) (fun c2 => ?_) (fun c2 => ?_)
    · replace hq := hq.1 c2
      refine x_aload_n 0 dX12_readAll_249 rfl ?_
      obtain ⟨g3, hq⟩ := hq
      refine x_get (v := rv (fR h x0 3182)) fdX12_204 dX12_readAll_250 g3 rfl ?_
      refine x_iload 3 dX12_readAll_253 rfl ?_
      obtain ⟨g4, hq⟩ := hq
      obtain ⟨i5, hq⟩ := hq
      refine x_iald 0 (Or.inl rfl) g4 i5 dX12_readAll_255 ?_
      refine x_iconst (v := 1) dX12_readAll_256 (by decide) ?_
      refine x_icmp_ne (tgt := 271) dX12_readAll_257 (by decide) (fun c6 => ?_) (fun c6 => ?_)
      · replace hq := hq.1 c6
        refine xP.pick (lv' := [(0, rv x0), (1, .int x1)]) [0, 1] rfl ?_
        exact uX12_readAll_271 hq
      · replace hq := hq.2 c6
        refine x_aload_n 0 dX12_readAll_260 rfl ?_
        refine x_get (v := rv (fR h x0 3185)) fdX12_213 dX12_readAll_261 g3 rfl ?_
        refine x_iload 3 dX12_readAll_264 rfl ?_
        obtain ⟨g7, hq⟩ := hq
        obtain ⟨i8, hq⟩ := hq
        refine x_iald 0 (Or.inl rfl) g7 i8 dX12_readAll_266 ?_
        refine x_iconst (v := (-1)) dX12_readAll_267 (by decide) ?_
        refine x_icmp_ne (tgt := 284) dX12_readAll_268 (by decide) (fun c9 => ?_) (fun c9 => ?_)
        · replace hq := hq.1 c9
          refine xP.pick (lv' := [(0, rv x0), (4, .int x4)]) [0, 3] rfl ?_
          exact hq
        · replace hq := hq.2 c9
          refine xP.pick (lv' := [(0, rv x0), (1, .int x1)]) [0, 1] rfl ?_
          exact uX12_readAll_271 hq
    · replace hq := hq.2 c2
      exact x_vret rfl dX12_readAll_248 hq
  · replace hq := hq.2 c1
    refine x_aload_n 0 dX12_readAll_59 rfl ?_
    obtain ⟨g10, hq⟩ := hq
    refine x_get (v := rv (fR h x0 3103)) fdX12_73 dX12_readAll_60 g10 rfl ?_
    refine x_iload 4 dX12_readAll_63 rfl ?_
    obtain ⟨g11, hq⟩ := hq
    obtain ⟨i12, hq⟩ := hq
    refine x_iald 0 (Or.inl rfl) g11 i12 dX12_readAll_65 ?_
    refine x_istore (lv' := [(6, .int (aI h (fR h x0 3103) (Int32.toNatClampNeg x5))), (0, rv x0), (1, .int x1), (2, .int x2), (4, .int x4), (5, .int x5)]) dX12_readAll_66 (by decide) rfl ?_
    refine x_aload_n 1 dX12_readAll_68 rfl ?_
    refine x_iload 0 dX12_readAll_69 rfl ?_
    obtain ⟨g13, g14, hq⟩ := hq
    refine x_callV (Yc := YX12_loneVariable) (as := [.int (aI h (fR h x0 3103) (Int32.toNatClampNeg x5))]) (st := []) q4348 mvX12_loneVariable g10 rfl dX12_readAll_71 (xle (xal1 (rv_cat _) (xal1 rfl xal0)) (by decide)) (xfr g13) (xlo xsw0 (by decide) g14) (xKi hq (fun x16 h15 hq e17 => ?_) (fun _ _ q _ => q))
    replace hq := hq e17
    refine x_istore (lv' := [(7, .int x16), (6, .int (aI h (fR h x0 3103) (Int32.toNatClampNeg x5))), (0, rv x0), (1, .int x1), (2, .int x2), (4, .int x4), (5, .int x5)]) dX12_readAll_74 (by decide) rfl ?_
    refine x_aload_n 2 dX12_readAll_76 rfl ?_
    refine x_iload 0 dX12_readAll_77 rfl ?_
    have t18 : tg h15 x0 = 13 := e17.tg g10 (by decide)
    obtain ⟨g19, g20, hq⟩ := hq
    refine x_callV (Yc := YX12_find1) (as := [.int x16]) (st := []) q4615 mvX12_find1 t18 rfl dX12_readAll_79 (xle (xal1 (rv_cat _) (xal1 rfl xal0)) (by decide)) (xfr g19) (xlo xsw0 (by decide) g20) (xKv hq (fun h21 hq e23 => ?_) (fun _ _ q _ => q))
    replace hq := hq e23
    refine x_aload_n 2 dX12_readAll_82 rfl ?_
    have t24 : tg h21 x0 = 13 := e23.tg t18 (by decide)
    refine x_get (v := .int (fI h21 x0 3170)) fdX12_1121 dX12_readAll_83 t24 rfl ?_
    refine x_if_eq (tgt := 90) dX12_readAll_86 (by decide) (fun c25 => ?_) (fun c25 => ?_)
    · replace hq := hq.1 c25
      refine x_aload_n 2 dX12_readAll_90 rfl ?_
      refine x_get (v := rv (fR h21 x0 3113)) fdX12_96 dX12_readAll_91 t24 rfl ?_
      refine x_iload 0 dX12_readAll_94 rfl ?_
      obtain ⟨g26, hq⟩ := hq
      obtain ⟨i27, hq⟩ := hq
      refine x_aald 8 rfl g26 (by decide) i27 dX12_readAll_96 ?_
      refine x_astore (lv' := [(8, rv (aR h21 (fR h21 x0 3113) (Int32.toNatClampNeg x16))), (7, .int x16), (6, .int (aI h (fR h x0 3103) (Int32.toNatClampNeg x5))), (0, rv x0), (1, .int x1), (2, .int x2), (4, .int x4), (5, .int x5)]) dX12_readAll_97 (by decide) rfl ?_
      refine x_aload_n 3 dX12_readAll_99 rfl ?_
      refine x_get (v := rv (fR h21 x0 3189)) fdX12_225 dX12_readAll_100 t24 rfl ?_
      refine x_iload 6 dX12_readAll_103 rfl ?_
      obtain ⟨g28, hq⟩ := hq
      obtain ⟨i29, hq⟩ := hq
      refine x_aald 8 rfl g28 (by decide) i29 dX12_readAll_105 ?_
      obtain ⟨g30, hq⟩ := hq
      obtain ⟨g31, g32, hq⟩ := hq
      refine x_callV (Yc := YX13_isText) (as := []) (st := []) q4352 mvX13_isText g30 rfl dX12_readAll_106 (xle (xal1 (rv_cat _) xal0) (by decide)) (xfr g31) (xlo xsw0 (by decide) g32) (xKi hq (fun x34 h33 hq e35 => ?_) (fun _ _ q _ => q))
      replace hq := hq e35
      refine x_if_eq (tgt := 128) dX12_readAll_109 (by decide) (fun c36 => ?_) (fun c36 => ?_)
      · replace hq := hq.1 c36
        refine xP.pick (lv' := [(0, rv x0), (1, .int x1), (2, .int x2), (4, .int x4), (5, .int x5), (6, .int (aI h (fR h x0 3103) (Int32.toNatClampNeg x5))), (8, rv (aR h21 (fR h21 x0 3113) (Int32.toNatClampNeg x16)))]) [3, 4, 5, 6, 7, 2, 0] rfl ?_
        exact uX12_readAll_128 hq
      · replace hq := hq.2 c36
        refine x_aload 0 dX12_readAll_112 rfl ?_
        obtain ⟨g37, hq⟩ := hq
        obtain ⟨g38, g39, hq⟩ := hq
        refine x_callV (Yc := YX13_own) (as := []) (st := []) q4189 mvX13_own g37 rfl dX12_readAll_114 (xle (xal1 (rv_cat _) xal0) (by decide)) (xfr g38) (xlo xsw0 (by decide) g39) (xKr hq (fun x41 h40 hq e42 => ?_) (fun _ _ q _ => q))
        replace hq := hq e42
        obtain ⟨g43, hq⟩ := hq
        refine x_get (v := .int (fI h40 x41 3328)) fdX12_845 dX12_readAll_117 g43 rfl ?_
        refine x_iconst (v := 4) dX12_readAll_120 (by decide) ?_
        refine x_icmp_eq (tgt := 128) dX12_readAll_121 (by decide) (fun c44 => ?_) (fun c44 => ?_)
        · replace hq := hq.1 c44
          refine xP.pick (lv' := [(0, rv x0), (1, .int x1), (2, .int x2), (4, .int x4), (5, .int x5), (6, .int (aI h (fR h x0 3103) (Int32.toNatClampNeg x5))), (8, rv (aR h21 (fR h21 x0 3113) (Int32.toNatClampNeg x16)))]) [3, 4, 5, 6, 7, 2, 0] rfl ?_
          exact uX12_readAll_128 hq
        · replace hq := hq.2 c44
          refine x_iconst (v := 1) dX12_readAll_124 (by decide) ?_
          refine x_goto (tgt := 129) dX12_readAll_125 (by decide) ?_
          refine xP.pick (lv' := [(0, rv x0), (1, .int x1), (2, .int x2), (4, .int x4), (5, .int x5), (6, .int (aI h (fR h x0 3103) (Int32.toNatClampNeg x5))), (8, rv (aR h21 (fR h21 x0 3113) (Int32.toNatClampNeg x16)))]) [3, 4, 5, 6, 7, 2, 0] rfl ?_
          exact uX12_readAll_129 hq
    · replace hq := hq.2 c25
      exact x_vret rfl dX12_readAll_89 hq
set_option maxRecDepth 100000 in
def bX12_readAll_37 (G : xG) (fr lo : Nat) (x0 : Nat) (x1 : Int32) (x2 : Int32) (s0 : Nat) (h : xH) (Q : Outcome → xH → Prop) : Prop := tg h x0 = 13 ∧ 1 ≤ fr ∧ 13 ≤ lo ∧ xRi G YX12_fileOfRun (fr - 1) (lo - 13) [rv x0, rv s0] h (fun x5 h4 => xext h h4 → tg h4 (fR h4 x0 3107) = 100 ∧ vp_in x1 (ln h4 (fR h4 x0 3107)) ∧ lX12_readAll_53 G fr lo x0 x1 x2 x5 (aI h4 (fR h4 x0 3107) (Int32.toNatClampNeg x1)) h4 Q) (fun r h2 => Q (.threw r) h2)
set_option maxRecDepth 100000 in
theorem uX12_readAll_37 {G : xG} {fr lo : Nat} {x0 : Nat} {x1 : Int32} {x2 : Int32} {s0 : Nat} {h : xH} {Q : Outcome → xH → Prop} (hq : bX12_readAll_37 G fr lo x0 x1 x2 s0 h Q) : xP G YX12_readAll fr lo 37 [(0, rv x0), (1, .int x1), (2, .int x2)] [rv s0] h Q := by
  unfold bX12_readAll_37 at hq
  refine x_astore_n (lv' := [(3, rv s0), (0, rv x0), (1, .int x1), (2, .int x2)]) dX12_readAll_37 (by decide) rfl ?_
  refine x_aload_n 1 dX12_readAll_38 rfl ?_
  refine x_aload_n 0 dX12_readAll_39 rfl ?_
  obtain ⟨g1, hq⟩ := hq
  obtain ⟨g2, g3, hq⟩ := hq
  refine x_callV (Yc := YX12_fileOfRun) (as := [rv s0]) (st := []) q4502 mvX12_fileOfRun g1 rfl dX12_readAll_40 (xle (xal1 (rv_cat _) (xal1 (rv_cat _) xal0)) (by decide)) (xfr g2) (xlo xsw0 (by decide) g3) (xKi hq (fun x5 h4 hq e6 => ?_) (fun _ _ q _ => q))
  replace hq := hq e6
  refine x_istore (lv' := [(4, .int x5), (3, rv s0), (0, rv x0), (1, .int x1), (2, .int x2)]) dX12_readAll_43 (by decide) (by first | rfl | (simp [rv_cat, Value.category]; done) | (simp [rv_cat, Value.category]; decide)) ?_
  refine x_aload_n 2 dX12_readAll_45 rfl ?_
  have t7 : tg h4 x0 = 13 := e6.tg g1 (by decide)
  refine x_get (v := rv (fR h4 x0 3107)) fdX12_85 dX12_readAll_46 t7 rfl ?_
  refine x_iload_n 3 dX12_readAll_49 rfl ?_
  obtain ⟨g8, hq⟩ := hq
  obtain ⟨i9, hq⟩ := hq
  refine x_iald 0 (Or.inl rfl) g8 i9 dX12_readAll_50 ?_
  refine x_istore (lv' := [(5, .int (aI h4 (fR h4 x0 3107) (Int32.toNatClampNeg x1))), (4, .int x5), (3, rv s0), (0, rv x0), (1, .int x1), (2, .int x2)]) dX12_readAll_51 (by decide) rfl ?_
  refine xP.pick (lv' := [(0, rv x0), (1, .int x1), (2, .int x2), (4, .int x5), (5, .int (aI h4 (fR h4 x0 3107) (Int32.toNatClampNeg x1)))]) [3, 4, 5, 1, 0] rfl ?_
  exact hq
set_option maxRecDepth 100000 in
def bX12_readAll (G : xG) (fr lo : Nat) (x0 : Nat) (x1 : Int32) (x2 : Int32) (h : xH) (Q : Outcome → xH → Prop) : Prop := tg h x0 = 13 ∧ tg h (fR h x0 3106) = 100 ∧ vp_in x1 (ln h (fR h x0 3106)) ∧ ((¬ (aI h (fR h x0 3106) (Int32.toNatClampNeg x1)) = (-1) → vp_in x1 (ln h (fR h x0 3106)) ∧ tg h (fR h x0 3103) = 100 ∧ vp_in (aI h (fR h x0 3106) (Int32.toNatClampNeg x1)) (ln h (fR h x0 3103)) ∧ 1 ≤ fr ∧ 16 ≤ lo ∧ xRi G YX12_loneVariable (fr - 1) (lo - 16) [rv x0, .int (aI h (fR h x0 3103) (Int32.toNatClampNeg (aI h (fR h x0 3106) (Int32.toNatClampNeg x1))))] h (fun x11 h10 => xext h h10 → tg h10 (fR h x0 3114) = 109 ∧ vp_in x11 (ln h10 (fR h x0 3114)) ∧ bX12_readAll_37 G fr lo x0 x1 x2 (aR h10 (fR h x0 3114) (Int32.toNatClampNeg x11)) h10 Q) (fun r h2 => Q (.threw r) h2)) ∧ ((aI h (fR h x0 3106) (Int32.toNatClampNeg x1)) = (-1) → bX12_readAll_37 G fr lo x0 x1 x2 (fR h x0 3129) h Q))
set_option maxRecDepth 100000 in
theorem uX12_readAll {G : xG} {fr lo : Nat} {x0 : Nat} {x1 : Int32} {x2 : Int32} {h : xH} {Q : Outcome → xH → Prop} (hq : bX12_readAll G fr lo x0 x1 x2 h Q) : xP G YX12_readAll fr lo 0 [(0, rv x0), (1, .int x1), (2, .int x2)] [] h Q := by
  unfold bX12_readAll at hq
  refine x_aload_n 0 dX12_readAll_0 rfl ?_
  obtain ⟨g1, hq⟩ := hq
  refine x_get (v := rv (fR h x0 3106)) fdX12_82 dX12_readAll_1 g1 rfl ?_
  refine x_iload_n 1 dX12_readAll_4 rfl ?_
  obtain ⟨g2, hq⟩ := hq
  obtain ⟨i3, hq⟩ := hq
  refine x_iald 0 (Or.inl rfl) g2 i3 dX12_readAll_5 ?_
  refine x_iconst (v := (-1)) dX12_readAll_6 (by decide) ?_
  refine x_icmp_ne (tgt := 17) dX12_readAll_7 (by decide) (fun c4 => ?_) (fun c4 => ?_)
  · replace hq := hq.1 c4
    refine x_aload_n 0 dX12_readAll_17 rfl ?_
    refine x_get (v := rv (fR h x0 3114)) fdX12_102 dX12_readAll_18 g1 rfl ?_
    refine x_aload_n 0 dX12_readAll_21 rfl ?_
    refine x_aload_n 0 dX12_readAll_22 rfl ?_
    refine x_get (v := rv (fR h x0 3103)) fdX12_73 dX12_readAll_23 g1 rfl ?_
    refine x_aload_n 0 dX12_readAll_26 rfl ?_
    refine x_get (v := rv (fR h x0 3106)) fdX12_82 dX12_readAll_27 g1 rfl ?_
    refine x_iload_n 1 dX12_readAll_30 rfl ?_
    obtain ⟨i5, hq⟩ := hq
    refine x_iald 0 (Or.inl rfl) g2 i5 dX12_readAll_31 ?_
    obtain ⟨g6, hq⟩ := hq
    obtain ⟨i7, hq⟩ := hq
    refine x_iald 0 (Or.inl rfl) g6 i7 dX12_readAll_32 ?_
    obtain ⟨g8, g9, hq⟩ := hq
    refine x_callV (Yc := YX12_loneVariable) (as := [.int (aI h (fR h x0 3103) (Int32.toNatClampNeg (aI h (fR h x0 3106) (Int32.toNatClampNeg x1))))]) (st := [rv (fR h x0 3114)]) q4348 mvX12_loneVariable g1 rfl dX12_readAll_33 (xle (xal1 (rv_cat _) (xal1 rfl xal0)) (by decide)) (xfr g8) (xlo (xsw1 (rv_cat _) xsw0) (by decide) g9) (xKi hq (fun x11 h10 hq e12 => ?_) (fun _ _ q _ => q))
    replace hq := hq e12
    obtain ⟨g13, hq⟩ := hq
    obtain ⟨i14, hq⟩ := hq
    refine x_aald 9 rfl g13 (by decide) i14 dX12_readAll_36 ?_
    exact uX12_readAll_37 hq
  · replace hq := hq.2 c4
    refine x_aload_n 0 dX12_readAll_10 rfl ?_
    refine x_get (v := rv (fR h x0 3129)) fdX12_727 dX12_readAll_11 g1 rfl ?_
    refine x_goto (tgt := 37) dX12_readAll_14 (by decide) ?_
    exact uX12_readAll_37 hq
theorem rX12_readAll {G : xG} {fr lo : Nat} {x0 : Nat} {x1 : Int32} {x2 : Int32} {h : xH} {Q : Outcome → xH → Prop} (hq : bX12_readAll G fr lo x0 x1 x2 h Q) : xR G YX12_readAll fr lo [rv x0, .int x1, .int x2] h Q := by
  show xP _ _ _ _ _ (lv_args 0 _) _ _ _
  rw [show lv_args 0 [rv x0, .int x1, .int x2] = [(0, rv x0), (1, .int x1), (2, .int x2)] from (xla1 (rv_cat _) (xla1 rfl (xla1 rfl xla0)))]
  exact uX12_readAll hq
set_option maxRecDepth 100000 in
theorem dX12_readNumber_0 : decode cX12_readNumber 0 = .ok (.aload_n 0, 1) := by decide +kernel
set_option maxRecDepth 100000 in
theorem dX12_readNumber_1 : decode cX12_readNumber 1 = .ok (.iload_n 1, 1) := by decide +kernel
set_option maxRecDepth 100000 in
theorem dX12_readNumber_2 : decode cX12_readNumber 2 = .ok (.invokevirtual 1450, 3) := by decide +kernel
set_option maxRecDepth 100000 in
theorem dX12_readNumber_5 : decode cX12_readNumber 5 = .ok (.bipush 32, 2) := by decide +kernel
set_option maxRecDepth 100000 in
theorem dX12_readNumber_7 : decode cX12_readNumber 7 = .ok (.if_icmp .eq 13, 3) := by decide +kernel
set_option maxRecDepth 100000 in
theorem dX12_readNumber_10 : decode cX12_readNumber 10 = .ok (.aload_n 0, 1) := by decide +kernel
set_option maxRecDepth 100000 in
theorem dX12_readNumber_11 : decode cX12_readNumber 11 = .ok (.iload_n 1, 1) := by decide +kernel
set_option maxRecDepth 100000 in
theorem dX12_readNumber_12 : decode cX12_readNumber 12 = .ok (.invokevirtual 1450, 3) := by decide +kernel
set_option maxRecDepth 100000 in
theorem dX12_readNumber_15 : decode cX12_readNumber 15 = .ok (.bipush 10, 2) := by decide +kernel
set_option maxRecDepth 100000 in
theorem dX12_readNumber_17 : decode cX12_readNumber 17 = .ok (.if_icmp .ne 11, 3) := by decide +kernel
set_option maxRecDepth 100000 in
theorem dX12_readNumber_20 : decode cX12_readNumber 20 = .ok (.aload_n 0, 1) := by decide +kernel
set_option maxRecDepth 100000 in
theorem dX12_readNumber_21 : decode cX12_readNumber 21 = .ok (.iload_n 1, 1) := by decide +kernel
set_option maxRecDepth 100000 in
theorem dX12_readNumber_22 : decode cX12_readNumber 22 = .ok (.invokevirtual 1207, 3) := by decide +kernel
set_option maxRecDepth 100000 in
theorem dX12_readNumber_25 : decode cX12_readNumber 25 = .ok (.goto (-25), 3) := by decide +kernel
set_option maxRecDepth 100000 in
theorem dX12_readNumber_28 : decode cX12_readNumber 28 = .ok (.aload_n 0, 1) := by decide +kernel
set_option maxRecDepth 100000 in
theorem dX12_readNumber_29 : decode cX12_readNumber 29 = .ok (.iload_n 1, 1) := by decide +kernel
set_option maxRecDepth 100000 in
theorem dX12_readNumber_30 : decode cX12_readNumber 30 = .ok (.invokevirtual 1450, 3) := by decide +kernel
set_option maxRecDepth 100000 in
theorem dX12_readNumber_33 : decode cX12_readNumber 33 = .ok (.bipush 45, 2) := by decide +kernel
set_option maxRecDepth 100000 in
theorem dX12_readNumber_35 : decode cX12_readNumber 35 = .ok (.if_icmp .ne 7, 3) := by decide +kernel
set_option maxRecDepth 100000 in
theorem dX12_readNumber_38 : decode cX12_readNumber 38 = .ok (.iconst 1, 1) := by decide +kernel
set_option maxRecDepth 100000 in
theorem dX12_readNumber_39 : decode cX12_readNumber 39 = .ok (.goto 4, 3) := by decide +kernel
set_option maxRecDepth 100000 in
theorem dX12_readNumber_42 : decode cX12_readNumber 42 = .ok (.iconst 0, 1) := by decide +kernel
set_option maxRecDepth 100000 in
theorem dX12_readNumber_43 : decode cX12_readNumber 43 = .ok (.istore 6, 2) := by decide +kernel
set_option maxRecDepth 100000 in
theorem dX12_readNumber_45 : decode cX12_readNumber 45 = .ok (.iload 6, 2) := by decide +kernel
set_option maxRecDepth 100000 in
theorem dX12_readNumber_47 : decode cX12_readNumber 47 = .ok (.ifCond .ne 13, 3) := by decide +kernel
set_option maxRecDepth 100000 in
theorem dX12_readNumber_50 : decode cX12_readNumber 50 = .ok (.aload_n 0, 1) := by decide +kernel
set_option maxRecDepth 100000 in
theorem dX12_readNumber_51 : decode cX12_readNumber 51 = .ok (.iload_n 1, 1) := by decide +kernel
set_option maxRecDepth 100000 in
theorem dX12_readNumber_52 : decode cX12_readNumber 52 = .ok (.invokevirtual 1450, 3) := by decide +kernel
set_option maxRecDepth 100000 in
theorem dX12_readNumber_55 : decode cX12_readNumber 55 = .ok (.bipush 43, 2) := by decide +kernel
set_option maxRecDepth 100000 in
theorem dX12_readNumber_57 : decode cX12_readNumber 57 = .ok (.if_icmp .ne 8, 3) := by decide +kernel
set_option maxRecDepth 100000 in
theorem dX12_readNumber_60 : decode cX12_readNumber 60 = .ok (.aload_n 0, 1) := by decide +kernel
set_option maxRecDepth 100000 in
theorem dX12_readNumber_61 : decode cX12_readNumber 61 = .ok (.iload_n 1, 1) := by decide +kernel
set_option maxRecDepth 100000 in
theorem dX12_readNumber_62 : decode cX12_readNumber 62 = .ok (.invokevirtual 1207, 3) := by decide +kernel
set_option maxRecDepth 100000 in
theorem dX12_readNumber_65 : decode cX12_readNumber 65 = .ok (.aload_n 0, 1) := by decide +kernel
set_option maxRecDepth 100000 in
theorem dX12_readNumber_66 : decode cX12_readNumber 66 = .ok (.getfield 213, 3) := by decide +kernel
set_option maxRecDepth 100000 in
theorem dX12_readNumber_69 : decode cX12_readNumber 69 = .ok (.iload_n 1, 1) := by decide +kernel
set_option maxRecDepth 100000 in
theorem dX12_readNumber_70 : decode cX12_readNumber 70 = .ok (.iaload, 1) := by decide +kernel
set_option maxRecDepth 100000 in
theorem dX12_readNumber_71 : decode cX12_readNumber 71 = .ok (.iconst (-1), 1) := by decide +kernel
set_option maxRecDepth 100000 in
theorem dX12_readNumber_72 : decode cX12_readNumber 72 = .ok (.if_icmp .ne 12, 3) := by decide +kernel
set_option maxRecDepth 100000 in
theorem dX12_readNumber_75 : decode cX12_readNumber 75 = .ok (.aload_n 0, 1) := by decide +kernel
set_option maxRecDepth 100000 in
theorem dX12_readNumber_76 : decode cX12_readNumber 76 = .ok (.bipush 10, 2) := by decide +kernel
set_option maxRecDepth 100000 in
theorem dX12_readNumber_78 : decode cX12_readNumber 78 = .ok (.iload 4, 2) := by decide +kernel
set_option maxRecDepth 100000 in
theorem dX12_readNumber_80 : decode cX12_readNumber 80 = .ok (.invokevirtual 1142, 3) := by decide +kernel
set_option maxRecDepth 100000 in
theorem dX12_readNumber_83 : decode cX12_readNumber 83 = .ok (.return_, 1) := by decide +kernel
set_option maxRecDepth 100000 in
theorem dX12_readNumber_84 : decode cX12_readNumber 84 = .ok (.aload_n 3, 1) := by decide +kernel
set_option maxRecDepth 100000 in
theorem dX12_readNumber_85 : decode cX12_readNumber 85 = .ok (.getfield 845, 3) := by decide +kernel
set_option maxRecDepth 100000 in
theorem dX12_readNumber_88 : decode cX12_readNumber 88 = .ok (.iconst 2, 1) := by decide +kernel
set_option maxRecDepth 100000 in
theorem dX12_readNumber_89 : decode cX12_readNumber 89 = .ok (.if_icmp .eq 7, 3) := by decide +kernel
set_option maxRecDepth 100000 in
theorem dX12_readNumber_92 : decode cX12_readNumber 92 = .ok (.iconst 1, 1) := by decide +kernel
set_option maxRecDepth 100000 in
theorem dX12_readNumber_93 : decode cX12_readNumber 93 = .ok (.goto 4, 3) := by decide +kernel
set_option maxRecDepth 100000 in
theorem dX12_readNumber_96 : decode cX12_readNumber 96 = .ok (.iconst 0, 1) := by decide +kernel
set_option maxRecDepth 100000 in
theorem dX12_readNumber_97 : decode cX12_readNumber 97 = .ok (.istore 7, 2) := by decide +kernel
set_option maxRecDepth 100000 in
theorem dX12_readNumber_99 : decode cX12_readNumber 99 = .ok (.iconst 0, 1) := by decide +kernel
set_option maxRecDepth 100000 in
theorem dX12_readNumber_100 : decode cX12_readNumber 100 = .ok (.istore 8, 2) := by decide +kernel
set_option maxRecDepth 100000 in
theorem dX12_readNumber_102 : decode cX12_readNumber 102 = .ok (.iconst 0, 1) := by decide +kernel
set_option maxRecDepth 100000 in
theorem dX12_readNumber_103 : decode cX12_readNumber 103 = .ok (.istore 9, 2) := by decide +kernel
set_option maxRecDepth 100000 in
theorem dX12_readNumber_105 : decode cX12_readNumber 105 = .ok (.lconst 0, 1) := by decide +kernel
set_option maxRecDepth 100000 in
theorem dX12_readNumber_106 : decode cX12_readNumber 106 = .ok (.lstore 10, 2) := by decide +kernel
set_option maxRecDepth 100000 in
theorem dX12_readNumber_108 : decode cX12_readNumber 108 = .ok (.iconst 0, 1) := by decide +kernel
set_option maxRecDepth 100000 in
theorem dX12_readNumber_109 : decode cX12_readNumber 109 = .ok (.istore 12, 2) := by decide +kernel
set_option maxRecDepth 100000 in
theorem dX12_readNumber_111 : decode cX12_readNumber 111 = .ok (.aload_n 0, 1) := by decide +kernel
set_option maxRecDepth 100000 in
theorem dX12_readNumber_112 : decode cX12_readNumber 112 = .ok (.iload_n 1, 1) := by decide +kernel
set_option maxRecDepth 100000 in
theorem dX12_readNumber_113 : decode cX12_readNumber 113 = .ok (.invokevirtual 1450, 3) := by decide +kernel
set_option maxRecDepth 100000 in
theorem dX12_readNumber_116 : decode cX12_readNumber 116 = .ok (.invokestatic 383, 3) := by decide +kernel
set_option maxRecDepth 100000 in
theorem dX12_readNumber_119 : decode cX12_readNumber 119 = .ok (.ifCond .ne 44, 3) := by decide +kernel
set_option maxRecDepth 100000 in
theorem dX12_readNumber_122 : decode cX12_readNumber 122 = .ok (.iload 7, 2) := by decide +kernel
set_option maxRecDepth 100000 in
theorem dX12_readNumber_124 : decode cX12_readNumber 124 = .ok (.ifCond .ne 109, 3) := by decide +kernel
set_option maxRecDepth 100000 in
theorem dX12_readNumber_127 : decode cX12_readNumber 127 = .ok (.iload 12, 2) := by decide +kernel
set_option maxRecDepth 100000 in
theorem dX12_readNumber_129 : decode cX12_readNumber 129 = .ok (.ifCond .ne 104, 3) := by decide +kernel
set_option maxRecDepth 100000 in
theorem dX12_readNumber_132 : decode cX12_readNumber 132 = .ok (.iload 8, 2) := by decide +kernel
set_option maxRecDepth 100000 in
theorem dX12_readNumber_134 : decode cX12_readNumber 134 = .ok (.ifCond .le 99, 3) := by decide +kernel
set_option maxRecDepth 100000 in
theorem dX12_readNumber_137 : decode cX12_readNumber 137 = .ok (.aload_n 0, 1) := by decide +kernel
set_option maxRecDepth 100000 in
theorem dX12_readNumber_138 : decode cX12_readNumber 138 = .ok (.iload_n 1, 1) := by decide +kernel
set_option maxRecDepth 100000 in
theorem dX12_readNumber_139 : decode cX12_readNumber 139 = .ok (.invokevirtual 1450, 3) := by decide +kernel
set_option maxRecDepth 100000 in
theorem dX12_readNumber_142 : decode cX12_readNumber 142 = .ok (.bipush 46, 2) := by decide +kernel
set_option maxRecDepth 100000 in
theorem dX12_readNumber_144 : decode cX12_readNumber 144 = .ok (.if_icmp .ne 89, 3) := by decide +kernel
set_option maxRecDepth 100000 in
theorem dX12_readNumber_147 : decode cX12_readNumber 147 = .ok (.aload_n 0, 1) := by decide +kernel
set_option maxRecDepth 100000 in
theorem dX12_readNumber_148 : decode cX12_readNumber 148 = .ok (.aload_n 0, 1) := by decide +kernel
set_option maxRecDepth 100000 in
theorem dX12_readNumber_149 : decode cX12_readNumber 149 = .ok (.getfield 213, 3) := by decide +kernel
set_option maxRecDepth 100000 in
theorem dX12_readNumber_152 : decode cX12_readNumber 152 = .ok (.iload_n 1, 1) := by decide +kernel
set_option maxRecDepth 100000 in
theorem dX12_readNumber_153 : decode cX12_readNumber 153 = .ok (.iaload, 1) := by decide +kernel
set_option maxRecDepth 100000 in
theorem dX12_readNumber_154 : decode cX12_readNumber 154 = .ok (.invokevirtual 1453, 3) := by decide +kernel
set_option maxRecDepth 100000 in
theorem dX12_readNumber_157 : decode cX12_readNumber 157 = .ok (.invokestatic 383, 3) := by decide +kernel
set_option maxRecDepth 100000 in
theorem dX12_readNumber_160 : decode cX12_readNumber 160 = .ok (.ifCond .eq 73, 3) := by decide +kernel
set_option maxRecDepth 100000 in
theorem dX12_readNumber_163 : decode cX12_readNumber 163 = .ok (.aload_n 0, 1) := by decide +kernel
set_option maxRecDepth 100000 in
theorem dX12_readNumber_164 : decode cX12_readNumber 164 = .ok (.iload_n 1, 1) := by decide +kernel
set_option maxRecDepth 100000 in
theorem dX12_readNumber_165 : decode cX12_readNumber 165 = .ok (.invokevirtual 1450, 3) := by decide +kernel
set_option maxRecDepth 100000 in
theorem dX12_readNumber_168 : decode cX12_readNumber 168 = .ok (.bipush 46, 2) := by decide +kernel
set_option maxRecDepth 100000 in
theorem dX12_readNumber_170 : decode cX12_readNumber 170 = .ok (.if_icmp .ne 9, 3) := by decide +kernel
set_option maxRecDepth 100000 in
theorem dX12_readNumber_173 : decode cX12_readNumber 173 = .ok (.iconst 1, 1) := by decide +kernel
set_option maxRecDepth 100000 in
theorem dX12_readNumber_174 : decode cX12_readNumber 174 = .ok (.istore 12, 2) := by decide +kernel
set_option maxRecDepth 100000 in
theorem dX12_readNumber_176 : decode cX12_readNumber 176 = .ok (.goto 49, 3) := by decide +kernel
set_option maxRecDepth 100000 in
theorem dX12_readNumber_179 : decode cX12_readNumber 179 = .ok (.lload 10, 2) := by decide +kernel
set_option maxRecDepth 100000 in
theorem dX12_readNumber_181 : decode cX12_readNumber 181 = .ok (.ldc2_w 1456, 3) := by decide +kernel
set_option maxRecDepth 100000 in
theorem dX12_readNumber_184 : decode cX12_readNumber 184 = .ok (.lcmp, 1) := by decide +kernel
set_option maxRecDepth 100000 in
theorem dX12_readNumber_185 : decode cX12_readNumber 185 = .ok (.ifCond .ge 22, 3) := by decide +kernel
set_option maxRecDepth 100000 in
theorem dX12_readNumber_188 : decode cX12_readNumber 188 = .ok (.ldc2_w 389, 3) := by decide +kernel
set_option maxRecDepth 100000 in
theorem dX12_readNumber_191 : decode cX12_readNumber 191 = .ok (.lload 10, 2) := by decide +kernel
set_option maxRecDepth 100000 in
theorem dX12_readNumber_193 : decode cX12_readNumber 193 = .ok (.lmul, 1) := by decide +kernel
set_option maxRecDepth 100000 in
theorem dX12_readNumber_194 : decode cX12_readNumber 194 = .ok (.aload_n 0, 1) := by decide +kernel
set_option maxRecDepth 100000 in
theorem dX12_readNumber_195 : decode cX12_readNumber 195 = .ok (.iload_n 1, 1) := by decide +kernel
set_option maxRecDepth 100000 in
theorem dX12_readNumber_196 : decode cX12_readNumber 196 = .ok (.invokevirtual 1450, 3) := by decide +kernel
set_option maxRecDepth 100000 in
theorem dX12_readNumber_199 : decode cX12_readNumber 199 = .ok (.i2l, 1) := by decide +kernel
set_option maxRecDepth 100000 in
theorem dX12_readNumber_200 : decode cX12_readNumber 200 = .ok (.ladd, 1) := by decide +kernel
set_option maxRecDepth 100000 in
theorem dX12_readNumber_201 : decode cX12_readNumber 201 = .ok (.ldc2_w 391, 3) := by decide +kernel
set_option maxRecDepth 100000 in
theorem dX12_readNumber_204 : decode cX12_readNumber 204 = .ok (.lsub, 1) := by decide +kernel
set_option maxRecDepth 100000 in
theorem dX12_readNumber_205 : decode cX12_readNumber 205 = .ok (.lstore 10, 2) := by decide +kernel
set_option maxRecDepth 100000 in
theorem dX12_readNumber_207 : decode cX12_readNumber 207 = .ok (.iinc 8 1, 3) := by decide +kernel
set_option maxRecDepth 100000 in
theorem dX12_readNumber_210 : decode cX12_readNumber 210 = .ok (.iload 9, 2) := by decide +kernel
set_option maxRecDepth 100000 in
theorem dX12_readNumber_212 : decode cX12_readNumber 212 = .ok (.iload 12, 2) := by decide +kernel
set_option maxRecDepth 100000 in
theorem dX12_readNumber_214 : decode cX12_readNumber 214 = .ok (.ifCond .eq 7, 3) := by decide +kernel
set_option maxRecDepth 100000 in
theorem dX12_readNumber_217 : decode cX12_readNumber 217 = .ok (.iconst 1, 1) := by decide +kernel
set_option maxRecDepth 100000 in
theorem dX12_readNumber_218 : decode cX12_readNumber 218 = .ok (.goto 4, 3) := by decide +kernel
set_option maxRecDepth 100000 in
theorem dX12_readNumber_221 : decode cX12_readNumber 221 = .ok (.iconst 0, 1) := by decide +kernel
set_option maxRecDepth 100000 in
theorem dX12_readNumber_222 : decode cX12_readNumber 222 = .ok (.iadd, 1) := by decide +kernel
set_option maxRecDepth 100000 in
theorem dX12_readNumber_223 : decode cX12_readNumber 223 = .ok (.istore 9, 2) := by decide +kernel
set_option maxRecDepth 100000 in
theorem dX12_readNumber_225 : decode cX12_readNumber 225 = .ok (.aload_n 0, 1) := by decide +kernel
set_option maxRecDepth 100000 in
theorem dX12_readNumber_226 : decode cX12_readNumber 226 = .ok (.iload_n 1, 1) := by decide +kernel
set_option maxRecDepth 100000 in
theorem dX12_readNumber_227 : decode cX12_readNumber 227 = .ok (.invokevirtual 1207, 3) := by decide +kernel
set_option maxRecDepth 100000 in
theorem dX12_readNumber_230 : decode cX12_readNumber 230 = .ok (.goto (-119), 3) := by decide +kernel
set_option maxRecDepth 100000 in
theorem dX12_readNumber_233 : decode cX12_readNumber 233 = .ok (.iconst 0, 1) := by decide +kernel
set_option maxRecDepth 100000 in
theorem dX12_readNumber_234 : decode cX12_readNumber 234 = .ok (.istore 13, 2) := by decide +kernel
set_option maxRecDepth 100000 in
theorem dX12_readNumber_236 : decode cX12_readNumber 236 = .ok (.iconst 0, 1) := by decide +kernel
set_option maxRecDepth 100000 in
theorem dX12_readNumber_237 : decode cX12_readNumber 237 = .ok (.istore 14, 2) := by decide +kernel
set_option maxRecDepth 100000 in
theorem dX12_readNumber_239 : decode cX12_readNumber 239 = .ok (.iconst 0, 1) := by decide +kernel
set_option maxRecDepth 100000 in
theorem dX12_readNumber_240 : decode cX12_readNumber 240 = .ok (.istore 15, 2) := by decide +kernel
set_option maxRecDepth 100000 in
theorem dX12_readNumber_242 : decode cX12_readNumber 242 = .ok (.iload 7, 2) := by decide +kernel
set_option maxRecDepth 100000 in
theorem dX12_readNumber_244 : decode cX12_readNumber 244 = .ok (.ifCond .ne 174, 3) := by decide +kernel
set_option maxRecDepth 100000 in
theorem dX12_readNumber_247 : decode cX12_readNumber 247 = .ok (.iload 8, 2) := by decide +kernel
set_option maxRecDepth 100000 in
theorem dX12_readNumber_249 : decode cX12_readNumber 249 = .ok (.ifCond .le 169, 3) := by decide +kernel
set_option maxRecDepth 100000 in
theorem dX12_readNumber_252 : decode cX12_readNumber 252 = .ok (.aload_n 0, 1) := by decide +kernel
set_option maxRecDepth 100000 in
theorem dX12_readNumber_253 : decode cX12_readNumber 253 = .ok (.iload_n 1, 1) := by decide +kernel
set_option maxRecDepth 100000 in
theorem dX12_readNumber_254 : decode cX12_readNumber 254 = .ok (.invokevirtual 1450, 3) := by decide +kernel
set_option maxRecDepth 100000 in
theorem dX12_readNumber_257 : decode cX12_readNumber 257 = .ok (.bipush 101, 2) := by decide +kernel
set_option maxRecDepth 100000 in
theorem dX12_readNumber_259 : decode cX12_readNumber 259 = .ok (.if_icmp .eq 13, 3) := by decide +kernel
set_option maxRecDepth 100000 in
theorem dX12_readNumber_262 : decode cX12_readNumber 262 = .ok (.aload_n 0, 1) := by decide +kernel
set_option maxRecDepth 100000 in
theorem dX12_readNumber_263 : decode cX12_readNumber 263 = .ok (.iload_n 1, 1) := by decide +kernel
set_option maxRecDepth 100000 in
theorem dX12_readNumber_264 : decode cX12_readNumber 264 = .ok (.invokevirtual 1450, 3) := by decide +kernel
set_option maxRecDepth 100000 in
theorem dX12_readNumber_267 : decode cX12_readNumber 267 = .ok (.bipush 69, 2) := by decide +kernel
set_option maxRecDepth 100000 in
theorem dX12_readNumber_269 : decode cX12_readNumber 269 = .ok (.if_icmp .ne 149, 3) := by decide +kernel
set_option maxRecDepth 100000 in
theorem dX12_readNumber_272 : decode cX12_readNumber 272 = .ok (.aload_n 0, 1) := by decide +kernel
set_option maxRecDepth 100000 in
theorem dX12_readNumber_273 : decode cX12_readNumber 273 = .ok (.getfield 213, 3) := by decide +kernel
set_option maxRecDepth 100000 in
theorem dX12_readNumber_276 : decode cX12_readNumber 276 = .ok (.iload_n 1, 1) := by decide +kernel
set_option maxRecDepth 100000 in
theorem dX12_readNumber_277 : decode cX12_readNumber 277 = .ok (.iaload, 1) := by decide +kernel
set_option maxRecDepth 100000 in
theorem dX12_readNumber_278 : decode cX12_readNumber 278 = .ok (.istore 16, 2) := by decide +kernel
set_option maxRecDepth 100000 in
theorem dX12_readNumber_280 : decode cX12_readNumber 280 = .ok (.aload_n 0, 1) := by decide +kernel
set_option maxRecDepth 100000 in
theorem dX12_readNumber_281 : decode cX12_readNumber 281 = .ok (.iload 16, 2) := by decide +kernel
set_option maxRecDepth 100000 in
theorem dX12_readNumber_283 : decode cX12_readNumber 283 = .ok (.invokevirtual 1453, 3) := by decide +kernel
set_option maxRecDepth 100000 in
theorem dX12_readNumber_286 : decode cX12_readNumber 286 = .ok (.istore 17, 2) := by decide +kernel
set_option maxRecDepth 100000 in
theorem dX12_readNumber_288 : decode cX12_readNumber 288 = .ok (.iload 17, 2) := by decide +kernel
set_option maxRecDepth 100000 in
theorem dX12_readNumber_290 : decode cX12_readNumber 290 = .ok (.bipush 43, 2) := by decide +kernel
set_option maxRecDepth 100000 in
theorem dX12_readNumber_292 : decode cX12_readNumber 292 = .ok (.if_icmp .eq 10, 3) := by decide +kernel
set_option maxRecDepth 100000 in
theorem dX12_readNumber_295 : decode cX12_readNumber 295 = .ok (.iload 17, 2) := by decide +kernel
set_option maxRecDepth 100000 in
theorem dX12_readNumber_297 : decode cX12_readNumber 297 = .ok (.bipush 45, 2) := by decide +kernel
set_option maxRecDepth 100000 in
theorem dX12_readNumber_299 : decode cX12_readNumber 299 = .ok (.if_icmp .ne 7, 3) := by decide +kernel
set_option maxRecDepth 100000 in
theorem dX12_readNumber_302 : decode cX12_readNumber 302 = .ok (.iconst 1, 1) := by decide +kernel
set_option maxRecDepth 100000 in
theorem dX12_readNumber_303 : decode cX12_readNumber 303 = .ok (.goto 4, 3) := by decide +kernel
set_option maxRecDepth 100000 in
theorem dX12_readNumber_306 : decode cX12_readNumber 306 = .ok (.iconst 0, 1) := by decide +kernel
set_option maxRecDepth 100000 in
theorem dX12_readNumber_307 : decode cX12_readNumber 307 = .ok (.istore 18, 2) := by decide +kernel
set_option maxRecDepth 100000 in
theorem dX12_readNumber_309 : decode cX12_readNumber 309 = .ok (.iload 18, 2) := by decide +kernel
set_option maxRecDepth 100000 in
theorem dX12_readNumber_311 : decode cX12_readNumber 311 = .ok (.ifCond .eq 17, 3) := by decide +kernel
set_option maxRecDepth 100000 in
theorem dX12_readNumber_314 : decode cX12_readNumber 314 = .ok (.aload_n 0, 1) := by decide +kernel
set_option maxRecDepth 100000 in
theorem dX12_readNumber_315 : decode cX12_readNumber 315 = .ok (.aload_n 0, 1) := by decide +kernel
set_option maxRecDepth 100000 in
theorem dX12_readNumber_316 : decode cX12_readNumber 316 = .ok (.getfield 241, 3) := by decide +kernel
set_option maxRecDepth 100000 in
theorem dX12_readNumber_319 : decode cX12_readNumber 319 = .ok (.iload 16, 2) := by decide +kernel
set_option maxRecDepth 100000 in
theorem dX12_readNumber_321 : decode cX12_readNumber 321 = .ok (.iaload, 1) := by decide +kernel
set_option maxRecDepth 100000 in
theorem dX12_readNumber_322 : decode cX12_readNumber 322 = .ok (.invokevirtual 1453, 3) := by decide +kernel
set_option maxRecDepth 100000 in
theorem dX12_readNumber_325 : decode cX12_readNumber 325 = .ok (.goto 5, 3) := by decide +kernel
set_option maxRecDepth 100000 in
theorem dX12_readNumber_328 : decode cX12_readNumber 328 = .ok (.iload 17, 2) := by decide +kernel
set_option maxRecDepth 100000 in
theorem dX12_readNumber_330 : decode cX12_readNumber 330 = .ok (.istore 19, 2) := by decide +kernel
set_option maxRecDepth 100000 in
theorem dX12_readNumber_332 : decode cX12_readNumber 332 = .ok (.iload 19, 2) := by decide +kernel
set_option maxRecDepth 100000 in
theorem dX12_readNumber_334 : decode cX12_readNumber 334 = .ok (.invokestatic 383, 3) := by decide +kernel
set_option maxRecDepth 100000 in
theorem dX12_readNumber_337 : decode cX12_readNumber 337 = .ok (.ifCond .eq 81, 3) := by decide +kernel
set_option maxRecDepth 100000 in
theorem dX12_readNumber_340 : decode cX12_readNumber 340 = .ok (.aload_n 0, 1) := by decide +kernel
set_option maxRecDepth 100000 in
theorem dX12_readNumber_341 : decode cX12_readNumber 341 = .ok (.iload_n 1, 1) := by decide +kernel
set_option maxRecDepth 100000 in
theorem dX12_readNumber_342 : decode cX12_readNumber 342 = .ok (.invokevirtual 1207, 3) := by decide +kernel
set_option maxRecDepth 100000 in
theorem dX12_readNumber_345 : decode cX12_readNumber 345 = .ok (.iload 18, 2) := by decide +kernel
set_option maxRecDepth 100000 in
theorem dX12_readNumber_347 : decode cX12_readNumber 347 = .ok (.ifCond .eq 8, 3) := by decide +kernel
set_option maxRecDepth 100000 in
theorem dX12_readNumber_350 : decode cX12_readNumber 350 = .ok (.aload_n 0, 1) := by decide +kernel
set_option maxRecDepth 100000 in
theorem dX12_readNumber_351 : decode cX12_readNumber 351 = .ok (.iload_n 1, 1) := by decide +kernel
set_option maxRecDepth 100000 in
theorem dX12_readNumber_352 : decode cX12_readNumber 352 = .ok (.invokevirtual 1207, 3) := by decide +kernel
set_option maxRecDepth 100000 in
theorem dX12_readNumber_355 : decode cX12_readNumber 355 = .ok (.iload 17, 2) := by decide +kernel
set_option maxRecDepth 100000 in
theorem dX12_readNumber_357 : decode cX12_readNumber 357 = .ok (.bipush 45, 2) := by decide +kernel
set_option maxRecDepth 100000 in
theorem dX12_readNumber_359 : decode cX12_readNumber 359 = .ok (.if_icmp .ne 7, 3) := by decide +kernel
set_option maxRecDepth 100000 in
theorem dX12_readNumber_362 : decode cX12_readNumber 362 = .ok (.iconst 1, 1) := by decide +kernel
set_option maxRecDepth 100000 in
theorem dX12_readNumber_363 : decode cX12_readNumber 363 = .ok (.goto 4, 3) := by decide +kernel
set_option maxRecDepth 100000 in
theorem dX12_readNumber_366 : decode cX12_readNumber 366 = .ok (.iconst 0, 1) := by decide +kernel
set_option maxRecDepth 100000 in
theorem dX12_readNumber_367 : decode cX12_readNumber 367 = .ok (.istore 15, 2) := by decide +kernel
set_option maxRecDepth 100000 in
theorem dX12_readNumber_369 : decode cX12_readNumber 369 = .ok (.aload_n 0, 1) := by decide +kernel
set_option maxRecDepth 100000 in
theorem dX12_readNumber_370 : decode cX12_readNumber 370 = .ok (.iload_n 1, 1) := by decide +kernel
set_option maxRecDepth 100000 in
theorem dX12_readNumber_371 : decode cX12_readNumber 371 = .ok (.invokevirtual 1450, 3) := by decide +kernel
set_option maxRecDepth 100000 in
theorem dX12_readNumber_374 : decode cX12_readNumber 374 = .ok (.invokestatic 383, 3) := by decide +kernel
set_option maxRecDepth 100000 in
theorem dX12_readNumber_377 : decode cX12_readNumber 377 = .ok (.ifCond .eq 41, 3) := by decide +kernel
set_option maxRecDepth 100000 in
theorem dX12_readNumber_380 : decode cX12_readNumber 380 = .ok (.iload 14, 2) := by decide +kernel
set_option maxRecDepth 100000 in
theorem dX12_readNumber_382 : decode cX12_readNumber 382 = .ok (.iconst 2, 1) := by decide +kernel
set_option maxRecDepth 100000 in
theorem dX12_readNumber_383 : decode cX12_readNumber 383 = .ok (.if_icmp .ge 20, 3) := by decide +kernel
set_option maxRecDepth 100000 in
theorem dX12_readNumber_386 : decode cX12_readNumber 386 = .ok (.bipush 10, 2) := by decide +kernel
set_option maxRecDepth 100000 in
theorem dX12_readNumber_388 : decode cX12_readNumber 388 = .ok (.iload 13, 2) := by decide +kernel
set_option maxRecDepth 100000 in
theorem dX12_readNumber_390 : decode cX12_readNumber 390 = .ok (.imul, 1) := by decide +kernel
set_option maxRecDepth 100000 in
theorem dX12_readNumber_391 : decode cX12_readNumber 391 = .ok (.aload_n 0, 1) := by decide +kernel
set_option maxRecDepth 100000 in
theorem dX12_readNumber_392 : decode cX12_readNumber 392 = .ok (.iload_n 1, 1) := by decide +kernel
set_option maxRecDepth 100000 in
theorem dX12_readNumber_393 : decode cX12_readNumber 393 = .ok (.invokevirtual 1450, 3) := by decide +kernel
set_option maxRecDepth 100000 in
theorem dX12_readNumber_396 : decode cX12_readNumber 396 = .ok (.iadd, 1) := by decide +kernel
set_option maxRecDepth 100000 in
theorem dX12_readNumber_397 : decode cX12_readNumber 397 = .ok (.bipush 48, 2) := by decide +kernel
set_option maxRecDepth 100000 in
theorem dX12_readNumber_399 : decode cX12_readNumber 399 = .ok (.isub, 1) := by decide +kernel
set_option maxRecDepth 100000 in
theorem dX12_readNumber_400 : decode cX12_readNumber 400 = .ok (.goto 5, 3) := by decide +kernel
set_option maxRecDepth 100000 in
theorem dX12_readNumber_403 : decode cX12_readNumber 403 = .ok (.iload 13, 2) := by decide +kernel
set_option maxRecDepth 100000 in
theorem dX12_readNumber_405 : decode cX12_readNumber 405 = .ok (.istore 13, 2) := by decide +kernel
set_option maxRecDepth 100000 in
theorem dX12_readNumber_407 : decode cX12_readNumber 407 = .ok (.iinc 14 1, 3) := by decide +kernel
set_option maxRecDepth 100000 in
theorem dX12_readNumber_410 : decode cX12_readNumber 410 = .ok (.aload_n 0, 1) := by decide +kernel
set_option maxRecDepth 100000 in
theorem dX12_readNumber_411 : decode cX12_readNumber 411 = .ok (.iload_n 1, 1) := by decide +kernel
set_option maxRecDepth 100000 in
theorem dX12_readNumber_412 : decode cX12_readNumber 412 = .ok (.invokevirtual 1207, 3) := by decide +kernel
set_option maxRecDepth 100000 in
theorem dX12_readNumber_415 : decode cX12_readNumber 415 = .ok (.goto (-46), 3) := by decide +kernel
set_option maxRecDepth 100000 in
theorem dX12_readNumber_418 : decode cX12_readNumber 418 = .ok (.iload 8, 2) := by decide +kernel
set_option maxRecDepth 100000 in
theorem dX12_readNumber_420 : decode cX12_readNumber 420 = .ok (.ifCond .eq 33, 3) := by decide +kernel
set_option maxRecDepth 100000 in
theorem dX12_readNumber_423 : decode cX12_readNumber 423 = .ok (.iload 7, 2) := by decide +kernel
set_option maxRecDepth 100000 in
theorem dX12_readNumber_425 : decode cX12_readNumber 425 = .ok (.ifCond .eq 15, 3) := by decide +kernel
set_option maxRecDepth 100000 in
theorem dX12_readNumber_428 : decode cX12_readNumber 428 = .ok (.lload 10, 2) := by decide +kernel
set_option maxRecDepth 100000 in
theorem dX12_readNumber_430 : decode cX12_readNumber 430 = .ok (.ldc2_w 397, 3) := by decide +kernel
set_option maxRecDepth 100000 in
theorem dX12_readNumber_433 : decode cX12_readNumber 433 = .ok (.lcmp, 1) := by decide +kernel
set_option maxRecDepth 100000 in
theorem dX12_readNumber_434 : decode cX12_readNumber 434 = .ok (.ifCond .le 23, 3) := by decide +kernel
set_option maxRecDepth 100000 in
theorem dX12_readNumber_437 : decode cX12_readNumber 437 = .ok (.goto 16, 3) := by decide +kernel
set_option maxRecDepth 100000 in
theorem dX12_readNumber_440 : decode cX12_readNumber 440 = .ok (.iload 8, 2) := by decide +kernel
set_option maxRecDepth 100000 in
theorem dX12_readNumber_442 : decode cX12_readNumber 442 = .ok (.bipush 15, 2) := by decide +kernel
set_option maxRecDepth 100000 in
theorem dX12_readNumber_444 : decode cX12_readNumber 444 = .ok (.if_icmp .gt 9, 3) := by decide +kernel
set_option maxRecDepth 100000 in
theorem dX12_readNumber_447 : decode cX12_readNumber 447 = .ok (.iload 14, 2) := by decide +kernel
set_option maxRecDepth 100000 in
theorem dX12_readNumber_449 : decode cX12_readNumber 449 = .ok (.iconst 2, 1) := by decide +kernel
set_option maxRecDepth 100000 in
theorem dX12_readNumber_450 : decode cX12_readNumber 450 = .ok (.if_icmp .le 7, 3) := by decide +kernel
set_option maxRecDepth 100000 in
theorem dX12_readNumber_453 : decode cX12_readNumber 453 = .ok (.iconst 1, 1) := by decide +kernel
set_option maxRecDepth 100000 in
theorem dX12_readNumber_454 : decode cX12_readNumber 454 = .ok (.goto 4, 3) := by decide +kernel
set_option maxRecDepth 100000 in
theorem dX12_readNumber_457 : decode cX12_readNumber 457 = .ok (.iconst 0, 1) := by decide +kernel
set_option maxRecDepth 100000 in
theorem dX12_readNumber_458 : decode cX12_readNumber 458 = .ok (.istore 16, 2) := by decide +kernel
set_option maxRecDepth 100000 in
theorem dX12_readNumber_460 : decode cX12_readNumber 460 = .ok (.iload 16, 2) := by decide +kernel
set_option maxRecDepth 100000 in
theorem dX12_readNumber_462 : decode cX12_readNumber 462 = .ok (.ifCond .eq 12, 3) := by decide +kernel
set_option maxRecDepth 100000 in
theorem dX12_readNumber_465 : decode cX12_readNumber 465 = .ok (.aload_n 0, 1) := by decide +kernel
set_option maxRecDepth 100000 in
theorem dX12_readNumber_466 : decode cX12_readNumber 466 = .ok (.bipush 11, 2) := by decide +kernel
set_option maxRecDepth 100000 in
theorem dX12_readNumber_468 : decode cX12_readNumber 468 = .ok (.iload 5, 2) := by decide +kernel
set_option maxRecDepth 100000 in
theorem dX12_readNumber_470 : decode cX12_readNumber 470 = .ok (.invokevirtual 1142, 3) := by decide +kernel
set_option maxRecDepth 100000 in
theorem dX12_readNumber_473 : decode cX12_readNumber 473 = .ok (.return_, 1) := by decide +kernel
set_option maxRecDepth 100000 in
theorem dX12_readNumber_474 : decode cX12_readNumber 474 = .ok (.aload_n 0, 1) := by decide +kernel
set_option maxRecDepth 100000 in
theorem dX12_readNumber_475 : decode cX12_readNumber 475 = .ok (.iload_n 1, 1) := by decide +kernel
set_option maxRecDepth 100000 in
theorem dX12_readNumber_476 : decode cX12_readNumber 476 = .ok (.invokevirtual 1201, 3) := by decide +kernel
set_option maxRecDepth 100000 in
theorem dX12_readNumber_479 : decode cX12_readNumber 479 = .ok (.iload 7, 2) := by decide +kernel
set_option maxRecDepth 100000 in
theorem dX12_readNumber_481 : decode cX12_readNumber 481 = .ok (.ifCond .eq 23, 3) := by decide +kernel
set_option maxRecDepth 100000 in
theorem dX12_readNumber_484 : decode cX12_readNumber 484 = .ok (.aload_n 0, 1) := by decide +kernel
set_option maxRecDepth 100000 in
theorem dX12_readNumber_485 : decode cX12_readNumber 485 = .ok (.iload 6, 2) := by decide +kernel
set_option maxRecDepth 100000 in
theorem dX12_readNumber_487 : decode cX12_readNumber 487 = .ok (.ifCond .eq 9, 3) := by decide +kernel
set_option maxRecDepth 100000 in
theorem dX12_readNumber_490 : decode cX12_readNumber 490 = .ok (.lload 10, 2) := by decide +kernel
set_option maxRecDepth 100000 in
theorem dX12_readNumber_492 : decode cX12_readNumber 492 = .ok (.lneg, 1) := by decide +kernel
set_option maxRecDepth 100000 in
theorem dX12_readNumber_493 : decode cX12_readNumber 493 = .ok (.goto 5, 3) := by decide +kernel
set_option maxRecDepth 100000 in
theorem dX12_readNumber_496 : decode cX12_readNumber 496 = .ok (.lload 10, 2) := by decide +kernel
set_option maxRecDepth 100000 in
theorem dX12_readNumber_498 : decode cX12_readNumber 498 = .ok (.putfield 1145, 3) := by decide +kernel
set_option maxRecDepth 100000 in
theorem dX12_readNumber_501 : decode cX12_readNumber 501 = .ok (.goto 32, 3) := by decide +kernel
set_option maxRecDepth 100000 in
theorem dX12_readNumber_504 : decode cX12_readNumber 504 = .ok (.aload_n 0, 1) := by decide +kernel
set_option maxRecDepth 100000 in
theorem dX12_readNumber_505 : decode cX12_readNumber 505 = .ok (.lload 10, 2) := by decide +kernel
set_option maxRecDepth 100000 in
theorem dX12_readNumber_507 : decode cX12_readNumber 507 = .ok (.iload 9, 2) := by decide +kernel
set_option maxRecDepth 100000 in
theorem dX12_readNumber_509 : decode cX12_readNumber 509 = .ok (.iload 15, 2) := by decide +kernel
set_option maxRecDepth 100000 in
theorem dX12_readNumber_511 : decode cX12_readNumber 511 = .ok (.iload 13, 2) := by decide +kernel
set_option maxRecDepth 100000 in
theorem dX12_readNumber_513 : decode cX12_readNumber 513 = .ok (.invokestatic 403, 3) := by decide +kernel
set_option maxRecDepth 100000 in
theorem dX12_readNumber_516 : decode cX12_readNumber 516 = .ok (.putfield 1151, 3) := by decide +kernel
set_option maxRecDepth 100000 in
theorem dX12_readNumber_519 : decode cX12_readNumber 519 = .ok (.iload 6, 2) := by decide +kernel
set_option maxRecDepth 100000 in
theorem dX12_readNumber_521 : decode cX12_readNumber 521 = .ok (.ifCond .eq 12, 3) := by decide +kernel
set_option maxRecDepth 100000 in
theorem dX12_readNumber_524 : decode cX12_readNumber 524 = .ok (.aload_n 0, 1) := by decide +kernel
set_option maxRecDepth 100000 in
theorem dX12_readNumber_525 : decode cX12_readNumber 525 = .ok (.aload_n 0, 1) := by decide +kernel
set_option maxRecDepth 100000 in
theorem dX12_readNumber_526 : decode cX12_readNumber 526 = .ok (.getfield 1151, 3) := by decide +kernel
set_option maxRecDepth 100000 in
theorem dX12_readNumber_529 : decode cX12_readNumber 529 = .ok (.dneg, 1) := by decide +kernel
set_option maxRecDepth 100000 in
theorem dX12_readNumber_530 : decode cX12_readNumber 530 = .ok (.putfield 1151, 3) := by decide +kernel
set_option maxRecDepth 100000 in
theorem dX12_readNumber_533 : decode cX12_readNumber 533 = .ok (.aload_n 0, 1) := by decide +kernel
set_option maxRecDepth 100000 in
theorem dX12_readNumber_534 : decode cX12_readNumber 534 = .ok (.iload_n 2, 1) := by decide +kernel
set_option maxRecDepth 100000 in
theorem dX12_readNumber_535 : decode cX12_readNumber 535 = .ok (.iload 7, 2) := by decide +kernel
set_option maxRecDepth 100000 in
theorem dX12_readNumber_537 : decode cX12_readNumber 537 = .ok (.ifCond .eq 10, 3) := by decide +kernel
set_option maxRecDepth 100000 in
theorem dX12_readNumber_540 : decode cX12_readNumber 540 = .ok (.aload_n 0, 1) := by decide +kernel
set_option maxRecDepth 100000 in
theorem dX12_readNumber_541 : decode cX12_readNumber 541 = .ok (.getfield 109, 3) := by decide +kernel
set_option maxRecDepth 100000 in
theorem dX12_readNumber_544 : decode cX12_readNumber 544 = .ok (.goto 7, 3) := by decide +kernel
set_option maxRecDepth 100000 in
theorem dX12_readNumber_547 : decode cX12_readNumber 547 = .ok (.aload_n 0, 1) := by decide +kernel
set_option maxRecDepth 100000 in
theorem dX12_readNumber_548 : decode cX12_readNumber 548 = .ok (.getfield 113, 3) := by decide +kernel
set_option maxRecDepth 100000 in
theorem dX12_readNumber_551 : decode cX12_readNumber 551 = .ok (.aload_n 3, 1) := by decide +kernel
set_option maxRecDepth 100000 in
theorem dX12_readNumber_552 : decode cX12_readNumber 552 = .ok (.iload 5, 2) := by decide +kernel
set_option maxRecDepth 100000 in
theorem dX12_readNumber_554 : decode cX12_readNumber 554 = .ok (.invokevirtual 1411, 3) := by decide +kernel
set_option maxRecDepth 100000 in
theorem dX12_readNumber_557 : decode cX12_readNumber 557 = .ok (.return_, 1) := by decide +kernel
def lX12_readNumber_0 (G : xG) (fr lo : Nat) (x0 : Nat) (x1 : Int32) (x2 : Int32) (x3 : Nat) (x4 : Int32) (x5 : Int32) (h : xH) (Q : Outcome → xH → Prop) : Prop := xP G YX12_readNumber fr lo 0 [(0, rv x0), (1, .int x1), (2, .int x2), (3, rv x3), (4, .int x4), (5, .int x5)] [] h Q
def lX12_readNumber_111 (G : xG) (fr lo : Nat) (x0 : Nat) (x1 : Int32) (x2 : Int32) (x3 : Nat) (x5 : Int32) (x6 : Int32) (x7 : Int32) (x8 : Int32) (x9 : Int32) (x10 : Int64) (x12 : Int32) (h : xH) (Q : Outcome → xH → Prop) : Prop := xP G YX12_readNumber fr lo 111 [(0, rv x0), (1, .int x1), (2, .int x2), (3, rv x3), (5, .int x5), (6, .int x6), (7, .int x7), (8, .int x8), (9, .int x9), (10, .long x10), (12, .int x12)] [] h Q
def lX12_readNumber_369 (G : xG) (fr lo : Nat) (x0 : Nat) (x1 : Int32) (x2 : Int32) (x3 : Nat) (x5 : Int32) (x6 : Int32) (x7 : Int32) (x8 : Int32) (x9 : Int32) (x10 : Int64) (x13 : Int32) (x14 : Int32) (x15 : Int32) (h : xH) (Q : Outcome → xH → Prop) : Prop := xP G YX12_readNumber fr lo 369 [(0, rv x0), (1, .int x1), (2, .int x2), (3, rv x3), (5, .int x5), (6, .int x6), (7, .int x7), (8, .int x8), (9, .int x9), (10, .long x10), (13, .int x13), (14, .int x14), (15, .int x15)] [] h Q
set_option maxRecDepth 100000 in
def bX12_readNumber_551 (G : xG) (fr lo : Nat) (x3 : Nat) (x5 : Int32) (s0 : Nat) (s1 : Int32) (s2 : Nat) (h : xH) (Q : Outcome → xH → Prop) : Prop := tg h s2 = 13 ∧ 1 ≤ fr ∧ 16 ≤ lo ∧ xRv G YX12_store (fr - 1) (lo - 16) [rv s2, .int s1, rv s0, rv x3, .int x5] h (fun h4 => xext h h4 → Q (.returned none) h4) (fun r h2 => Q (.threw r) h2)
set_option maxRecDepth 100000 in
theorem uX12_readNumber_551 {G : xG} {fr lo : Nat} {x3 : Nat} {x5 : Int32} {s0 : Nat} {s1 : Int32} {s2 : Nat} {h : xH} {Q : Outcome → xH → Prop} (hq : bX12_readNumber_551 G fr lo x3 x5 s0 s1 s2 h Q) : xP G YX12_readNumber fr lo 551 [(3, rv x3), (5, .int x5)] [rv s0, .int s1, rv s2] h Q := by
  unfold bX12_readNumber_551 at hq
  refine x_aload_n 0 dX12_readNumber_551 rfl ?_
  refine x_iload 1 dX12_readNumber_552 rfl ?_
  obtain ⟨g1, hq⟩ := hq
  obtain ⟨g2, g3, hq⟩ := hq
  refine x_callV (Yc := YX12_store) (as := [.int s1, rv s0, rv x3, .int x5]) (st := []) q4713 mvX12_store g1 rfl dX12_readNumber_554 (xle (xal1 (rv_cat _) (xal1 rfl (xal1 (rv_cat _) (xal1 (rv_cat _) (xal1 rfl xal0))))) (by decide)) (xfr g2) (xlo xsw0 (by decide) g3) (xKv hq (fun h4 hq e6 => ?_) (fun _ _ q _ => q))
  replace hq := hq e6
  exact x_vret rfl dX12_readNumber_557 hq
set_option maxRecDepth 100000 in
def bX12_readNumber_533 (G : xG) (fr lo : Nat) (x0 : Nat) (x2 : Int32) (x3 : Nat) (x5 : Int32) (x7 : Int32) (h : xH) (Q : Outcome → xH → Prop) : Prop := ((x7 = 0 → tg h x0 = 13 ∧ bX12_readNumber_551 G fr lo x3 x5 (fR h x0 3116) x2 x0 h Q) ∧ (¬ x7 = 0 → tg h x0 = 13 ∧ bX12_readNumber_551 G fr lo x3 x5 (fR h x0 3115) x2 x0 h Q))
set_option maxRecDepth 100000 in
theorem uX12_readNumber_533 {G : xG} {fr lo : Nat} {x0 : Nat} {x2 : Int32} {x3 : Nat} {x5 : Int32} {x7 : Int32} {h : xH} {Q : Outcome → xH → Prop} (hq : bX12_readNumber_533 G fr lo x0 x2 x3 x5 x7 h Q) : xP G YX12_readNumber fr lo 533 [(0, rv x0), (2, .int x2), (3, rv x3), (5, .int x5), (7, .int x7)] [] h Q := by
  unfold bX12_readNumber_533 at hq
  refine x_aload_n 0 dX12_readNumber_533 rfl ?_
  refine x_iload_n 1 dX12_readNumber_534 rfl ?_
  refine x_iload 4 dX12_readNumber_535 rfl ?_
  refine x_if_eq (tgt := 547) dX12_readNumber_537 (by decide) (fun c1 => ?_) (fun c1 => ?_)
  · replace hq := hq.1 c1
    refine x_aload_n 0 dX12_readNumber_547 rfl ?_
    obtain ⟨g2, hq⟩ := hq
    refine x_get (v := rv (fR h x0 3116)) fdX12_113 dX12_readNumber_548 g2 rfl ?_
    refine xP.pick (lv' := [(3, rv x3), (5, .int x5)]) [2, 3] rfl ?_
    exact uX12_readNumber_551 hq
  · replace hq := hq.2 c1
    refine x_aload_n 0 dX12_readNumber_540 rfl ?_
    obtain ⟨g3, hq⟩ := hq
    refine x_get (v := rv (fR h x0 3115)) fdX12_109 dX12_readNumber_541 g3 rfl ?_
    refine x_goto (tgt := 551) dX12_readNumber_544 (by decide) ?_
    refine xP.pick (lv' := [(3, rv x3), (5, .int x5)]) [2, 3] rfl ?_
    exact uX12_readNumber_551 hq
set_option maxRecDepth 100000 in
def bX12_readNumber_498 (G : xG) (fr lo : Nat) (x0 : Nat) (x2 : Int32) (x3 : Nat) (x5 : Int32) (x7 : Int32) (s0 : Int64) (s1 : Nat) (h : xH) (Q : Outcome → xH → Prop) : Prop := tg h s1 = 13 ∧ (∀ h2 : xH, h2 = sJ h s1 3177 s0 → bX12_readNumber_533 G fr lo x0 x2 x3 x5 x7 h2 Q)
set_option maxRecDepth 100000 in
theorem uX12_readNumber_498 {G : xG} {fr lo : Nat} {x0 : Nat} {x2 : Int32} {x3 : Nat} {x5 : Int32} {x7 : Int32} {s0 : Int64} {s1 : Nat} {h : xH} {Q : Outcome → xH → Prop} (hq : bX12_readNumber_498 G fr lo x0 x2 x3 x5 x7 s0 s1 h Q) : xP G YX12_readNumber fr lo 498 [(0, rv x0), (2, .int x2), (3, rv x3), (5, .int x5), (7, .int x7)] [.long s0, rv s1] h Q := by
  unfold bX12_readNumber_498 at hq
  obtain ⟨g1, hq⟩ := hq
  obtain ⟨h2, e3⟩ : ∃ y, y = sJ h s1 3177 s0 := ⟨_, rfl⟩
  replace hq := hq h2 e3
  refine x_putJ fdX12_1145 dX12_readNumber_498 g1 (Or.inl (by rw [g1]; rfl)) rfl e3 ?_
  refine x_goto (tgt := 533) dX12_readNumber_501 (by decide) ?_
  exact uX12_readNumber_533 hq
set_option maxRecDepth 100000 in
def bX12_readNumber_458 (G : xG) (fr lo : Nat) (x0 : Nat) (x1 : Int32) (x2 : Int32) (x3 : Nat) (x5 : Int32) (x6 : Int32) (x7 : Int32) (x9 : Int32) (x10 : Int64) (x13 : Int32) (x15 : Int32) (s0 : Int32) (h : xH) (Q : Outcome → xH → Prop) : Prop := ((s0 = 0 → tg h x0 = 13 ∧ 1 ≤ fr ∧ 17 ≤ lo ∧ xRv G YX12_bringBuffer (fr - 1) (lo - 17) [rv x0, .int x1] h (fun h5 => xext h h5 → ((x7 = 0 → 1 ≤ fr ∧ 19 ≤ lo ∧ xRd G YX12_realOf (fr - 1) (lo - 19) [.long x10, .int x9, .int x15, .int x13] h5 (fun x12 h11 => xext h5 h11 → (∀ h16 : xH, h16 = sD h11 x0 3179 x12 → ((x6 = 0 → bX12_readNumber_533 G fr lo x0 x2 x3 x5 x7 h16 Q) ∧ (¬ x6 = 0 → (∀ h20 : xH, h20 = sD h16 x0 3179 (FP.dneg (fD h16 x0 3179)) → bX12_readNumber_533 G fr lo x0 x2 x3 x5 x7 h20 Q))))) (fun r h2 => Q (.threw r) h2)) ∧ (¬ x7 = 0 → ((x6 = 0 → bX12_readNumber_498 G fr lo x0 x2 x3 x5 x7 x10 x0 h5 Q) ∧ (¬ x6 = 0 → bX12_readNumber_498 G fr lo x0 x2 x3 x5 x7 (-x10) x0 h5 Q))))) (fun r h2 => Q (.threw r) h2)) ∧ (¬ s0 = 0 → tg h x0 = 13 ∧ 1 ≤ fr ∧ 14 ≤ lo ∧ xRv G YX12_error (fr - 1) (lo - 14) [rv x0, .int 11, .int x5] h (fun h26 => xext h h26 → Q (.returned none) h26) (fun r h2 => Q (.threw r) h2)))
set_option maxRecDepth 100000 in
theorem uX12_readNumber_458 {G : xG} {fr lo : Nat} {x0 : Nat} {x1 : Int32} {x2 : Int32} {x3 : Nat} {x5 : Int32} {x6 : Int32} {x7 : Int32} {x9 : Int32} {x10 : Int64} {x13 : Int32} {x15 : Int32} {s0 : Int32} {h : xH} {Q : Outcome → xH → Prop} (hq : bX12_readNumber_458 G fr lo x0 x1 x2 x3 x5 x6 x7 x9 x10 x13 x15 s0 h Q) : xP G YX12_readNumber fr lo 458 [(0, rv x0), (1, .int x1), (2, .int x2), (3, rv x3), (5, .int x5), (6, .int x6), (7, .int x7), (9, .int x9), (10, .long x10), (13, .int x13), (15, .int x15)] [.int s0] h Q := by
  unfold bX12_readNumber_458 at hq
  refine x_istore (lv' := [(16, .int s0), (0, rv x0), (1, .int x1), (2, .int x2), (3, rv x3), (5, .int x5), (6, .int x6), (7, .int x7), (9, .int x9), (10, .long x10), (13, .int x13), (15, .int x15)]) dX12_readNumber_458 (by decide) rfl ?_
  refine x_iload 0 dX12_readNumber_460 rfl ?_
  refine x_if_eq (tgt := 474) dX12_readNumber_462 (by decide) (fun c1 => ?_) (fun c1 => ?_)
  · replace hq := hq.1 c1
    refine x_aload_n 1 dX12_readNumber_474 rfl ?_
    refine x_iload_n 2 dX12_readNumber_475 rfl ?_
    obtain ⟨g2, hq⟩ := hq
    obtain ⟨g3, g4, hq⟩ := hq
    refine x_callV (Yc := YX12_bringBuffer) (as := [.int x1]) (st := []) q4526 mvX12_bringBuffer g2 rfl dX12_readNumber_476 (xle (xal1 (rv_cat _) (xal1 rfl xal0)) (by decide)) (xfr g3) (xlo xsw0 (by decide) g4) (xKv hq (fun h5 hq e7 => ?_) (fun _ _ q _ => q))
    replace hq := hq e7
    refine x_iload 7 dX12_readNumber_479 rfl ?_
    refine x_if_eq (tgt := 504) dX12_readNumber_481 (by decide) (fun c8 => ?_) (fun c8 => ?_)
    · replace hq := hq.1 c8
      refine x_aload_n 1 dX12_readNumber_504 rfl ?_
      refine x_lload 9 dX12_readNumber_505 rfl ?_
      refine x_iload 8 dX12_readNumber_507 rfl ?_
      refine x_iload 11 dX12_readNumber_509 rfl ?_
      refine x_iload 10 dX12_readNumber_511 rfl ?_
      obtain ⟨g9, g10, hq⟩ := hq
      refine x_callS (Yc := YX12_realOf) (as := [.long x10, .int x9, .int x15, .int x13]) (st := [rv x0]) q3757 msX12_realOf rfl dX12_readNumber_513 (xle (xal2 rfl (xal1 rfl (xal1 rfl (xal1 rfl xal0)))) (by decide)) (xfr g9) (xlo (xsw1 (rv_cat _) xsw0) (by decide) g10) (xKd hq (fun x12 h11 hq e13 => ?_) (fun _ _ q _ => q))
      replace hq := hq e13
      have t14 : tg h5 x0 = 13 := e7.tg g2 (by decide)
      have t15 : tg h11 x0 = 13 := e13.tg t14 (by decide)
      obtain ⟨h16, e17⟩ : ∃ y, y = sD h11 x0 3179 x12 := ⟨_, rfl⟩
      replace hq := hq h16 e17
      refine x_putD fdX12_1151 dX12_readNumber_516 t15 (Or.inl (by rw [t15]; rfl)) rfl e17 ?_
      refine x_iload 6 dX12_readNumber_519 rfl ?_
      refine x_if_eq (tgt := 533) dX12_readNumber_521 (by decide) (fun c18 => ?_) (fun c18 => ?_)
      · replace hq := hq.1 c18
        refine xP.pick (lv' := [(0, rv x0), (2, .int x2), (3, rv x3), (5, .int x5), (7, .int x7)]) [1, 3, 4, 5, 7] rfl ?_
        exact uX12_readNumber_533 hq
      · replace hq := hq.2 c18
        refine x_aload_n 1 dX12_readNumber_524 rfl ?_
        refine x_aload_n 1 dX12_readNumber_525 rfl ?_
        have t19 : tg h16 x0 = 13 := by rw [e17]; exact t15
        refine x_get (v := .double (fD h16 x0 3179)) fdX12_1151 dX12_readNumber_526 t19 rfl ?_
        refine x_dneg dX12_readNumber_529 ?_
        obtain ⟨h20, e21⟩ : ∃ y, y = sD h16 x0 3179 (FP.dneg (fD h16 x0 3179)) := ⟨_, rfl⟩
        replace hq := hq h20 e21
        refine x_putD fdX12_1151 dX12_readNumber_530 t19 (Or.inl (by rw [t19]; rfl)) rfl e21 ?_
        refine xP.pick (lv' := [(0, rv x0), (2, .int x2), (3, rv x3), (5, .int x5), (7, .int x7)]) [1, 3, 4, 5, 7] rfl ?_
        exact uX12_readNumber_533 hq
    · replace hq := hq.2 c8
      refine x_aload_n 1 dX12_readNumber_484 rfl ?_
      refine x_iload 6 dX12_readNumber_485 rfl ?_
      refine x_if_eq (tgt := 496) dX12_readNumber_487 (by decide) (fun c22 => ?_) (fun c22 => ?_)
      · replace hq := hq.1 c22
        refine x_lload 9 dX12_readNumber_496 rfl ?_
        refine xP.pick (lv' := [(0, rv x0), (2, .int x2), (3, rv x3), (5, .int x5), (7, .int x7)]) [1, 3, 4, 5, 7] rfl ?_
        exact uX12_readNumber_498 hq
      · replace hq := hq.2 c22
        refine x_lload 9 dX12_readNumber_490 rfl ?_
        refine x_lneg dX12_readNumber_492 ?_
        refine x_goto (tgt := 498) dX12_readNumber_493 (by decide) ?_
        refine xP.pick (lv' := [(0, rv x0), (2, .int x2), (3, rv x3), (5, .int x5), (7, .int x7)]) [1, 3, 4, 5, 7] rfl ?_
        exact uX12_readNumber_498 hq
  · replace hq := hq.2 c1
    refine x_aload_n 1 dX12_readNumber_465 rfl ?_
    refine x_bipush (v := 11) dX12_readNumber_466 (by decide) ?_
    refine x_iload 5 dX12_readNumber_468 rfl ?_
    obtain ⟨g23, hq⟩ := hq
    obtain ⟨g24, g25, hq⟩ := hq
    refine x_callV (Yc := YX12_error) (as := [.int 11, .int x5]) (st := []) q4490 mvX12_error g23 rfl dX12_readNumber_470 (xle (xal1 (rv_cat _) (xal1 rfl (xal1 rfl xal0))) (by decide)) (xfr g24) (xlo xsw0 (by decide) g25) (xKv hq (fun h26 hq e28 => ?_) (fun _ _ q _ => q))
    replace hq := hq e28
    exact x_vret rfl dX12_readNumber_473 hq
set_option maxRecDepth 100000 in
def bX12_readNumber_457 (G : xG) (fr lo : Nat) (x0 : Nat) (x1 : Int32) (x2 : Int32) (x3 : Nat) (x5 : Int32) (x6 : Int32) (x7 : Int32) (x9 : Int32) (x10 : Int64) (x13 : Int32) (x15 : Int32) (h : xH) (Q : Outcome → xH → Prop) : Prop := bX12_readNumber_458 G fr lo x0 x1 x2 x3 x5 x6 x7 x9 x10 x13 x15 0 h Q
set_option maxRecDepth 100000 in
theorem uX12_readNumber_457 {G : xG} {fr lo : Nat} {x0 : Nat} {x1 : Int32} {x2 : Int32} {x3 : Nat} {x5 : Int32} {x6 : Int32} {x7 : Int32} {x9 : Int32} {x10 : Int64} {x13 : Int32} {x15 : Int32} {h : xH} {Q : Outcome → xH → Prop} (hq : bX12_readNumber_457 G fr lo x0 x1 x2 x3 x5 x6 x7 x9 x10 x13 x15 h Q) : xP G YX12_readNumber fr lo 457 [(0, rv x0), (1, .int x1), (2, .int x2), (3, rv x3), (5, .int x5), (6, .int x6), (7, .int x7), (9, .int x9), (10, .long x10), (13, .int x13), (15, .int x15)] [] h Q := by
  unfold bX12_readNumber_457 at hq
  refine x_iconst (v := 0) dX12_readNumber_457 (by decide) ?_
  exact uX12_readNumber_458 hq
set_option maxRecDepth 100000 in
def bX12_readNumber_453 (G : xG) (fr lo : Nat) (x0 : Nat) (x1 : Int32) (x2 : Int32) (x3 : Nat) (x5 : Int32) (x6 : Int32) (x7 : Int32) (x9 : Int32) (x10 : Int64) (x13 : Int32) (x15 : Int32) (h : xH) (Q : Outcome → xH → Prop) : Prop := bX12_readNumber_458 G fr lo x0 x1 x2 x3 x5 x6 x7 x9 x10 x13 x15 1 h Q
set_option maxRecDepth 100000 in
theorem uX12_readNumber_453 {G : xG} {fr lo : Nat} {x0 : Nat} {x1 : Int32} {x2 : Int32} {x3 : Nat} {x5 : Int32} {x6 : Int32} {x7 : Int32} {x9 : Int32} {x10 : Int64} {x13 : Int32} {x15 : Int32} {h : xH} {Q : Outcome → xH → Prop} (hq : bX12_readNumber_453 G fr lo x0 x1 x2 x3 x5 x6 x7 x9 x10 x13 x15 h Q) : xP G YX12_readNumber fr lo 453 [(0, rv x0), (1, .int x1), (2, .int x2), (3, rv x3), (5, .int x5), (6, .int x6), (7, .int x7), (9, .int x9), (10, .long x10), (13, .int x13), (15, .int x15)] [] h Q := by
  unfold bX12_readNumber_453 at hq
  refine x_iconst (v := 1) dX12_readNumber_453 (by decide) ?_
  refine x_goto (tgt := 458) dX12_readNumber_454 (by decide) ?_
  exact uX12_readNumber_458 hq
set_option maxRecDepth 100000 in
def bX12_readNumber_418 (G : xG) (fr lo : Nat) (x0 : Nat) (x1 : Int32) (x2 : Int32) (x3 : Nat) (x5 : Int32) (x6 : Int32) (x7 : Int32) (x8 : Int32) (x9 : Int32) (x10 : Int64) (x13 : Int32) (x14 : Int32) (x15 : Int32) (h : xH) (Q : Outcome → xH → Prop) : Prop := ((x8 = 0 → bX12_readNumber_453 G fr lo x0 x1 x2 x3 x5 x6 x7 x9 x10 x13 x15 h Q) ∧ (¬ x8 = 0 → ((x7 = 0 → ((15 < x8 → bX12_readNumber_453 G fr lo x0 x1 x2 x3 x5 x6 x7 x9 x10 x13 x15 h Q) ∧ (¬ 15 < x8 → ((x14 ≤ 2 → bX12_readNumber_457 G fr lo x0 x1 x2 x3 x5 x6 x7 x9 x10 x13 x15 h Q) ∧ (¬ x14 ≤ 2 → bX12_readNumber_453 G fr lo x0 x1 x2 x3 x5 x6 x7 x9 x10 x13 x15 h Q))))) ∧ (¬ x7 = 0 → (((lg_cmp x10 2147483647) ≤ 0 → bX12_readNumber_457 G fr lo x0 x1 x2 x3 x5 x6 x7 x9 x10 x13 x15 h Q) ∧ (¬ (lg_cmp x10 2147483647) ≤ 0 → bX12_readNumber_453 G fr lo x0 x1 x2 x3 x5 x6 x7 x9 x10 x13 x15 h Q))))))
set_option maxRecDepth 100000 in
theorem uX12_readNumber_418 {G : xG} {fr lo : Nat} {x0 : Nat} {x1 : Int32} {x2 : Int32} {x3 : Nat} {x5 : Int32} {x6 : Int32} {x7 : Int32} {x8 : Int32} {x9 : Int32} {x10 : Int64} {x13 : Int32} {x14 : Int32} {x15 : Int32} {h : xH} {Q : Outcome → xH → Prop} (hq : bX12_readNumber_418 G fr lo x0 x1 x2 x3 x5 x6 x7 x8 x9 x10 x13 x14 x15 h Q) : xP G YX12_readNumber fr lo 418 [(0, rv x0), (1, .int x1), (2, .int x2), (3, rv x3), (5, .int x5), (6, .int x6), (7, .int x7), (8, .int x8), (9, .int x9), (10, .long x10), (13, .int x13), (14, .int x14), (15, .int x15)] [] h Q := by
  unfold bX12_readNumber_418 at hq
  refine x_iload 7 dX12_readNumber_418 rfl ?_
  refine x_if_eq (tgt := 453) dX12_readNumber_420 (by decide) (fun c1 => ?_) (fun c1 => ?_)
  · replace hq := hq.1 c1
    refine xP.pick (lv' := [(0, rv x0), (1, .int x1), (2, .int x2), (3, rv x3), (5, .int x5), (6, .int x6), (7, .int x7), (9, .int x9), (10, .long x10), (13, .int x13), (15, .int x15)]) [0, 1, 2, 3, 4, 5, 6, 8, 9, 10, 12] rfl ?_
    exact uX12_readNumber_453 hq
  · replace hq := hq.2 c1
    refine x_iload 6 dX12_readNumber_423 rfl ?_
    refine x_if_eq (tgt := 440) dX12_readNumber_425 (by decide) (fun c2 => ?_) (fun c2 => ?_)
    · replace hq := hq.1 c2
      refine x_iload 7 dX12_readNumber_440 rfl ?_
      refine x_bipush (v := 15) dX12_readNumber_442 (by decide) ?_
      refine x_icmp_gt (tgt := 453) dX12_readNumber_444 (by decide) (fun c3 => ?_) (fun c3 => ?_)
      · replace hq := hq.1 c3
        refine xP.pick (lv' := [(0, rv x0), (1, .int x1), (2, .int x2), (3, rv x3), (5, .int x5), (6, .int x6), (7, .int x7), (9, .int x9), (10, .long x10), (13, .int x13), (15, .int x15)]) [0, 1, 2, 3, 4, 5, 6, 8, 9, 10, 12] rfl ?_
        exact uX12_readNumber_453 hq
      · replace hq := hq.2 c3
        refine x_iload 11 dX12_readNumber_447 rfl ?_
        refine x_iconst (v := 2) dX12_readNumber_449 (by decide) ?_
        refine x_icmp_le (tgt := 457) dX12_readNumber_450 (by decide) (fun c4 => ?_) (fun c4 => ?_)
        · replace hq := hq.1 c4
          refine xP.pick (lv' := [(0, rv x0), (1, .int x1), (2, .int x2), (3, rv x3), (5, .int x5), (6, .int x6), (7, .int x7), (9, .int x9), (10, .long x10), (13, .int x13), (15, .int x15)]) [0, 1, 2, 3, 4, 5, 6, 8, 9, 10, 12] rfl ?_
          exact uX12_readNumber_457 hq
        · replace hq := hq.2 c4
          refine xP.pick (lv' := [(0, rv x0), (1, .int x1), (2, .int x2), (3, rv x3), (5, .int x5), (6, .int x6), (7, .int x7), (9, .int x9), (10, .long x10), (13, .int x13), (15, .int x15)]) [0, 1, 2, 3, 4, 5, 6, 8, 9, 10, 12] rfl ?_
          exact uX12_readNumber_453 hq
    · replace hq := hq.2 c2
      refine x_lload 9 dX12_readNumber_428 rfl ?_
      refine x_ldc2 (v := 2147483647) q3756 dX12_readNumber_430 ?_
      refine x_lcmp dX12_readNumber_433 ?_
      refine x_if_le (tgt := 457) dX12_readNumber_434 (by decide) (fun c5 => ?_) (fun c5 => ?_)
      · replace hq := hq.1 c5
        refine xP.pick (lv' := [(0, rv x0), (1, .int x1), (2, .int x2), (3, rv x3), (5, .int x5), (6, .int x6), (7, .int x7), (9, .int x9), (10, .long x10), (13, .int x13), (15, .int x15)]) [0, 1, 2, 3, 4, 5, 6, 8, 9, 10, 12] rfl ?_
        exact uX12_readNumber_457 hq
      · replace hq := hq.2 c5
        refine x_goto (tgt := 453) dX12_readNumber_437 (by decide) ?_
        refine xP.pick (lv' := [(0, rv x0), (1, .int x1), (2, .int x2), (3, rv x3), (5, .int x5), (6, .int x6), (7, .int x7), (9, .int x9), (10, .long x10), (13, .int x13), (15, .int x15)]) [0, 1, 2, 3, 4, 5, 6, 8, 9, 10, 12] rfl ?_
        exact uX12_readNumber_453 hq
set_option maxRecDepth 100000 in
def bX12_readNumber_405 (G : xG) (fr lo : Nat) (x0 : Nat) (x1 : Int32) (x2 : Int32) (x3 : Nat) (x5 : Int32) (x6 : Int32) (x7 : Int32) (x8 : Int32) (x9 : Int32) (x10 : Int64) (x14 : Int32) (x15 : Int32) (s0 : Int32) (h : xH) (Q : Outcome → xH → Prop) : Prop := tg h x0 = 13 ∧ 1 ≤ fr ∧ 15 ≤ lo ∧ xRv G YX12_goOn (fr - 1) (lo - 15) [rv x0, .int x1] h (fun h4 => xext h h4 → lX12_readNumber_369 G fr lo x0 x1 x2 x3 x5 x6 x7 x8 x9 x10 s0 (x14 + 1) x15 h4 Q) (fun r h2 => Q (.threw r) h2)
set_option maxRecDepth 100000 in
theorem uX12_readNumber_405 {G : xG} {fr lo : Nat} {x0 : Nat} {x1 : Int32} {x2 : Int32} {x3 : Nat} {x5 : Int32} {x6 : Int32} {x7 : Int32} {x8 : Int32} {x9 : Int32} {x10 : Int64} {x14 : Int32} {x15 : Int32} {s0 : Int32} {h : xH} {Q : Outcome → xH → Prop} (hq : bX12_readNumber_405 G fr lo x0 x1 x2 x3 x5 x6 x7 x8 x9 x10 x14 x15 s0 h Q) : xP G YX12_readNumber fr lo 405 [(0, rv x0), (1, .int x1), (2, .int x2), (3, rv x3), (5, .int x5), (6, .int x6), (7, .int x7), (8, .int x8), (9, .int x9), (10, .long x10), (14, .int x14), (15, .int x15)] [.int s0] h Q := by
  unfold bX12_readNumber_405 at hq
  refine x_istore (lv' := [(13, .int s0), (0, rv x0), (1, .int x1), (2, .int x2), (3, rv x3), (5, .int x5), (6, .int x6), (7, .int x7), (8, .int x8), (9, .int x9), (10, .long x10), (14, .int x14), (15, .int x15)]) dX12_readNumber_405 (by decide) rfl ?_
  refine x_iinc (lv' := [(14, .int (x14 + 1)), (13, .int s0), (0, rv x0), (1, .int x1), (2, .int x2), (3, rv x3), (5, .int x5), (6, .int x6), (7, .int x7), (8, .int x8), (9, .int x9), (10, .long x10), (15, .int x15)]) 11 dX12_readNumber_407 rfl (by decide) rfl ?_
  refine x_aload_n 2 dX12_readNumber_410 rfl ?_
  refine x_iload_n 3 dX12_readNumber_411 rfl ?_
  obtain ⟨g1, hq⟩ := hq
  obtain ⟨g2, g3, hq⟩ := hq
  refine x_callV (Yc := YX12_goOn) (as := [.int x1]) (st := []) q4737 mvX12_goOn g1 rfl dX12_readNumber_412 (xle (xal1 (rv_cat _) (xal1 rfl xal0)) (by decide)) (xfr g2) (xlo xsw0 (by decide) g3) (xKv hq (fun h4 hq e6 => ?_) (fun _ _ q _ => q))
  replace hq := hq e6
  refine x_goto (tgt := 369) dX12_readNumber_415 (by decide) ?_
  refine xP.pick (lv' := [(0, rv x0), (1, .int x1), (2, .int x2), (3, rv x3), (5, .int x5), (6, .int x6), (7, .int x7), (8, .int x8), (9, .int x9), (10, .long x10), (13, .int s0), (14, .int (x14 + 1)), (15, .int x15)]) [2, 3, 4, 5, 6, 7, 8, 9, 10, 11, 1, 0, 12] rfl ?_
  exact hq
set_option maxRecDepth 100000 in
def bX12_readNumber_369 (G : xG) (fr lo : Nat) (x0 : Nat) (x1 : Int32) (x2 : Int32) (x3 : Nat) (x5 : Int32) (x6 : Int32) (x7 : Int32) (x8 : Int32) (x9 : Int32) (x10 : Int64) (x13 : Int32) (x14 : Int32) (x15 : Int32) (h : xH) (Q : Outcome → xH → Prop) : Prop := tg h x0 = 13 ∧ 1 ≤ fr ∧ 13 ≤ lo ∧ xRi G YX12_signHere (fr - 1) (lo - 13) [rv x0, .int x1] h (fun x5 h4 => xext h h4 → 1 ≤ fr ∧ 12 ≤ lo ∧ xRi G YX12_isDigit (fr - 1) (lo - 12) [.int x5] h4 (fun x10 h9 => xext h4 h9 → ((x10 = 0 → bX12_readNumber_418 G fr lo x0 x1 x2 x3 x5 x6 x7 x8 x9 x10 x13 x14 x15 h9 Q) ∧ (¬ x10 = 0 → ((2 ≤ x14 → bX12_readNumber_405 G fr lo x0 x1 x2 x3 x5 x6 x7 x8 x9 x10 x14 x15 x13 h9 Q) ∧ (¬ 2 ≤ x14 → 1 ≤ fr ∧ 14 ≤ lo ∧ xRi G YX12_signHere (fr - 1) (lo - 14) [rv x0, .int x1] h9 (fun x19 h18 => xext h9 h18 → bX12_readNumber_405 G fr lo x0 x1 x2 x3 x5 x6 x7 x8 x9 x10 x14 x15 (((10 * x13) + x19) - 48) h18 Q) (fun r h2 => Q (.threw r) h2)))))) (fun r h2 => Q (.threw r) h2)) (fun r h2 => Q (.threw r) h2)
set_option maxRecDepth 100000 in
theorem uX12_readNumber_369 {G : xG} {fr lo : Nat} {x0 : Nat} {x1 : Int32} {x2 : Int32} {x3 : Nat} {x5 : Int32} {x6 : Int32} {x7 : Int32} {x8 : Int32} {x9 : Int32} {x10 : Int64} {x13 : Int32} {x14 : Int32} {x15 : Int32} {h : xH} {Q : Outcome → xH → Prop} (hq : bX12_readNumber_369 G fr lo x0 x1 x2 x3 x5 x6 x7 x8 x9 x10 x13 x14 x15 h Q) : xP G YX12_readNumber fr lo 369 [(0, rv x0), (1, .int x1), (2, .int x2), (3, rv x3), (5, .int x5), (6, .int x6), (7, .int x7), (8, .int x8), (9, .int x9), (10, .long x10), (13, .int x13), (14, .int x14), (15, .int x15)] [] h Q := by
  unfold bX12_readNumber_369 at hq
  refine x_aload_n 0 dX12_readNumber_369 rfl ?_
  refine x_iload_n 1 dX12_readNumber_370 rfl ?_
  obtain ⟨g1, hq⟩ := hq
  obtain ⟨g2, g3, hq⟩ := hq
  refine x_callV (Yc := YX12_signHere) (as := [.int x1]) (st := []) q4733 mvX12_signHere g1 rfl dX12_readNumber_371 (xle (xal1 (rv_cat _) (xal1 rfl xal0)) (by decide)) (xfr g2) (xlo xsw0 (by decide) g3) (xKi hq (fun x5 h4 hq e6 => ?_) (fun _ _ q _ => q))
  replace hq := hq e6
  obtain ⟨g7, g8, hq⟩ := hq
  refine x_callS (Yc := YX12_isDigit) (as := [.int x5]) (st := []) q3742 msX12_isDigit rfl dX12_readNumber_374 (xle (xal1 rfl xal0) (by decide)) (xfr g7) (xlo xsw0 (by decide) g8) (xKi hq (fun x10 h9 hq e11 => ?_) (fun _ _ q _ => q))
  replace hq := hq e11
  refine x_if_eq (tgt := 418) dX12_readNumber_377 (by decide) (fun c12 => ?_) (fun c12 => ?_)
  · replace hq := hq.1 c12
    exact uX12_readNumber_418 hq
  · replace hq := hq.2 c12
    refine x_iload 11 dX12_readNumber_380 rfl ?_
    refine x_iconst (v := 2) dX12_readNumber_382 (by decide) ?_
    refine x_icmp_ge (tgt := 403) dX12_readNumber_383 (by decide) (fun c13 => ?_) (fun c13 => ?_)
    · replace hq := hq.1 c13
      refine x_iload 10 dX12_readNumber_403 rfl ?_
      refine xP.pick (lv' := [(0, rv x0), (1, .int x1), (2, .int x2), (3, rv x3), (5, .int x5), (6, .int x6), (7, .int x7), (8, .int x8), (9, .int x9), (10, .long x10), (14, .int x14), (15, .int x15)]) [0, 1, 2, 3, 4, 5, 6, 7, 8, 9, 11, 12] rfl ?_
      exact uX12_readNumber_405 hq
    · replace hq := hq.2 c13
      refine x_bipush (v := 10) dX12_readNumber_386 (by decide) ?_
      refine x_iload 10 dX12_readNumber_388 rfl ?_
      refine x_imul dX12_readNumber_390 ?_
      refine x_aload_n 0 dX12_readNumber_391 rfl ?_
      refine x_iload_n 1 dX12_readNumber_392 rfl ?_
      have t14 : tg h4 x0 = 13 := e6.tg g1 (by decide)
      have t15 : tg h9 x0 = 13 := e11.tg t14 (by decide)
      obtain ⟨g16, g17, hq⟩ := hq
      refine x_callV (Yc := YX12_signHere) (as := [.int x1]) (st := [.int (10 * x13)]) q4733 mvX12_signHere t15 rfl dX12_readNumber_393 (xle (xal1 (rv_cat _) (xal1 rfl xal0)) (by decide)) (xfr g16) (xlo (xsw1 rfl xsw0) (by decide) g17) (xKi hq (fun x19 h18 hq e20 => ?_) (fun _ _ q _ => q))
      replace hq := hq e20
      refine x_iadd dX12_readNumber_396 ?_
      refine x_bipush (v := 48) dX12_readNumber_397 (by decide) ?_
      refine x_isub dX12_readNumber_399 ?_
      refine x_goto (tgt := 405) dX12_readNumber_400 (by decide) ?_
      refine xP.pick (lv' := [(0, rv x0), (1, .int x1), (2, .int x2), (3, rv x3), (5, .int x5), (6, .int x6), (7, .int x7), (8, .int x8), (9, .int x9), (10, .long x10), (14, .int x14), (15, .int x15)]) [0, 1, 2, 3, 4, 5, 6, 7, 8, 9, 11, 12] rfl ?_
      exact uX12_readNumber_405 hq
set_option maxRecDepth 100000 in
def bX12_readNumber_367 (G : xG) (fr lo : Nat) (x0 : Nat) (x1 : Int32) (x2 : Int32) (x3 : Nat) (x5 : Int32) (x6 : Int32) (x7 : Int32) (x8 : Int32) (x9 : Int32) (x10 : Int64) (x13 : Int32) (x14 : Int32) (s0 : Int32) (h : xH) (Q : Outcome → xH → Prop) : Prop := lX12_readNumber_369 G fr lo x0 x1 x2 x3 x5 x6 x7 x8 x9 x10 x13 x14 s0 h Q
set_option maxRecDepth 100000 in
theorem uX12_readNumber_367 {G : xG} {fr lo : Nat} {x0 : Nat} {x1 : Int32} {x2 : Int32} {x3 : Nat} {x5 : Int32} {x6 : Int32} {x7 : Int32} {x8 : Int32} {x9 : Int32} {x10 : Int64} {x13 : Int32} {x14 : Int32} {s0 : Int32} {h : xH} {Q : Outcome → xH → Prop} (hq : bX12_readNumber_367 G fr lo x0 x1 x2 x3 x5 x6 x7 x8 x9 x10 x13 x14 s0 h Q) : xP G YX12_readNumber fr lo 367 [(0, rv x0), (1, .int x1), (2, .int x2), (3, rv x3), (5, .int x5), (6, .int x6), (7, .int x7), (8, .int x8), (9, .int x9), (10, .long x10), (13, .int x13), (14, .int x14)] [.int s0] h Q := by
  unfold bX12_readNumber_367 at hq
  refine x_istore (lv' := [(15, .int s0), (0, rv x0), (1, .int x1), (2, .int x2), (3, rv x3), (5, .int x5), (6, .int x6), (7, .int x7), (8, .int x8), (9, .int x9), (10, .long x10), (13, .int x13), (14, .int x14)]) dX12_readNumber_367 (by decide) rfl ?_
  refine xP.pick (lv' := [(0, rv x0), (1, .int x1), (2, .int x2), (3, rv x3), (5, .int x5), (6, .int x6), (7, .int x7), (8, .int x8), (9, .int x9), (10, .long x10), (13, .int x13), (14, .int x14), (15, .int s0)]) [1, 2, 3, 4, 5, 6, 7, 8, 9, 10, 11, 12, 0] rfl ?_
  exact hq
set_option maxRecDepth 100000 in
def bX12_readNumber_355 (G : xG) (fr lo : Nat) (x0 : Nat) (x1 : Int32) (x2 : Int32) (x3 : Nat) (x5 : Int32) (x6 : Int32) (x7 : Int32) (x8 : Int32) (x9 : Int32) (x10 : Int64) (x13 : Int32) (x14 : Int32) (x17 : Int32) (h : xH) (Q : Outcome → xH → Prop) : Prop := ((¬ x17 = 45 → bX12_readNumber_367 G fr lo x0 x1 x2 x3 x5 x6 x7 x8 x9 x10 x13 x14 0 h Q) ∧ (x17 = 45 → bX12_readNumber_367 G fr lo x0 x1 x2 x3 x5 x6 x7 x8 x9 x10 x13 x14 1 h Q))
set_option maxRecDepth 100000 in
theorem uX12_readNumber_355 {G : xG} {fr lo : Nat} {x0 : Nat} {x1 : Int32} {x2 : Int32} {x3 : Nat} {x5 : Int32} {x6 : Int32} {x7 : Int32} {x8 : Int32} {x9 : Int32} {x10 : Int64} {x13 : Int32} {x14 : Int32} {x17 : Int32} {h : xH} {Q : Outcome → xH → Prop} (hq : bX12_readNumber_355 G fr lo x0 x1 x2 x3 x5 x6 x7 x8 x9 x10 x13 x14 x17 h Q) : xP G YX12_readNumber fr lo 355 [(0, rv x0), (1, .int x1), (2, .int x2), (3, rv x3), (5, .int x5), (6, .int x6), (7, .int x7), (8, .int x8), (9, .int x9), (10, .long x10), (13, .int x13), (14, .int x14), (17, .int x17)] [] h Q := by
  unfold bX12_readNumber_355 at hq
  refine x_iload 12 dX12_readNumber_355 rfl ?_
  refine x_bipush (v := 45) dX12_readNumber_357 (by decide) ?_
  refine x_icmp_ne (tgt := 366) dX12_readNumber_359 (by decide) (fun c1 => ?_) (fun c1 => ?_)
  · replace hq := hq.1 c1
    refine x_iconst (v := 0) dX12_readNumber_366 (by decide) ?_
    refine xP.pick (lv' := [(0, rv x0), (1, .int x1), (2, .int x2), (3, rv x3), (5, .int x5), (6, .int x6), (7, .int x7), (8, .int x8), (9, .int x9), (10, .long x10), (13, .int x13), (14, .int x14)]) [0, 1, 2, 3, 4, 5, 6, 7, 8, 9, 10, 11] rfl ?_
    exact uX12_readNumber_367 hq
  · replace hq := hq.2 c1
    refine x_iconst (v := 1) dX12_readNumber_362 (by decide) ?_
    refine x_goto (tgt := 367) dX12_readNumber_363 (by decide) ?_
    refine xP.pick (lv' := [(0, rv x0), (1, .int x1), (2, .int x2), (3, rv x3), (5, .int x5), (6, .int x6), (7, .int x7), (8, .int x8), (9, .int x9), (10, .long x10), (13, .int x13), (14, .int x14)]) [0, 1, 2, 3, 4, 5, 6, 7, 8, 9, 10, 11] rfl ?_
    exact uX12_readNumber_367 hq
set_option maxRecDepth 100000 in
def bX12_readNumber_330 (G : xG) (fr lo : Nat) (x0 : Nat) (x1 : Int32) (x2 : Int32) (x3 : Nat) (x5 : Int32) (x6 : Int32) (x7 : Int32) (x8 : Int32) (x9 : Int32) (x10 : Int64) (x13 : Int32) (x14 : Int32) (x15 : Int32) (x17 : Int32) (x18 : Int32) (s0 : Int32) (h : xH) (Q : Outcome → xH → Prop) : Prop := 1 ≤ fr ∧ 12 ≤ lo ∧ xRi G YX12_isDigit (fr - 1) (lo - 12) [.int s0] h (fun x4 h3 => xext h h3 → ((x4 = 0 → bX12_readNumber_418 G fr lo x0 x1 x2 x3 x5 x6 x7 x8 x9 x10 x13 x14 x15 h3 Q) ∧ (¬ x4 = 0 → tg h3 x0 = 13 ∧ 1 ≤ fr ∧ 15 ≤ lo ∧ xRv G YX12_goOn (fr - 1) (lo - 15) [rv x0, .int x1] h3 (fun h10 => xext h3 h10 → ((x18 = 0 → bX12_readNumber_355 G fr lo x0 x1 x2 x3 x5 x6 x7 x8 x9 x10 x13 x14 x17 h10 Q) ∧ (¬ x18 = 0 → 1 ≤ fr ∧ 15 ≤ lo ∧ xRv G YX12_goOn (fr - 1) (lo - 15) [rv x0, .int x1] h10 (fun h17 => xext h10 h17 → bX12_readNumber_355 G fr lo x0 x1 x2 x3 x5 x6 x7 x8 x9 x10 x13 x14 x17 h17 Q) (fun r h2 => Q (.threw r) h2)))) (fun r h2 => Q (.threw r) h2)))) (fun r h2 => Q (.threw r) h2)
set_option maxRecDepth 100000 in
theorem uX12_readNumber_330 {G : xG} {fr lo : Nat} {x0 : Nat} {x1 : Int32} {x2 : Int32} {x3 : Nat} {x5 : Int32} {x6 : Int32} {x7 : Int32} {x8 : Int32} {x9 : Int32} {x10 : Int64} {x13 : Int32} {x14 : Int32} {x15 : Int32} {x17 : Int32} {x18 : Int32} {s0 : Int32} {h : xH} {Q : Outcome → xH → Prop} (hq : bX12_readNumber_330 G fr lo x0 x1 x2 x3 x5 x6 x7 x8 x9 x10 x13 x14 x15 x17 x18 s0 h Q) : xP G YX12_readNumber fr lo 330 [(0, rv x0), (1, .int x1), (2, .int x2), (3, rv x3), (5, .int x5), (6, .int x6), (7, .int x7), (8, .int x8), (9, .int x9), (10, .long x10), (13, .int x13), (14, .int x14), (15, .int x15), (17, .int x17), (18, .int x18)] [.int s0] h Q := by
  unfold bX12_readNumber_330 at hq
  refine x_istore (lv' := [(19, .int s0), (0, rv x0), (1, .int x1), (2, .int x2), (3, rv x3), (5, .int x5), (6, .int x6), (7, .int x7), (8, .int x8), (9, .int x9), (10, .long x10), (13, .int x13), (14, .int x14), (15, .int x15), (17, .int x17), (18, .int x18)]) dX12_readNumber_330 (by decide) rfl ?_
  refine x_iload 0 dX12_readNumber_332 rfl ?_
  obtain ⟨g1, g2, hq⟩ := hq
  refine x_callS (Yc := YX12_isDigit) (as := [.int s0]) (st := []) q3742 msX12_isDigit rfl dX12_readNumber_334 (xle (xal1 rfl xal0) (by decide)) (xfr g1) (xlo xsw0 (by decide) g2) (xKi hq (fun x4 h3 hq e5 => ?_) (fun _ _ q _ => q))
  replace hq := hq e5
  refine x_if_eq (tgt := 418) dX12_readNumber_337 (by decide) (fun c6 => ?_) (fun c6 => ?_)
  · replace hq := hq.1 c6
    refine xP.pick (lv' := [(0, rv x0), (1, .int x1), (2, .int x2), (3, rv x3), (5, .int x5), (6, .int x6), (7, .int x7), (8, .int x8), (9, .int x9), (10, .long x10), (13, .int x13), (14, .int x14), (15, .int x15)]) [1, 2, 3, 4, 5, 6, 7, 8, 9, 10, 11, 12, 13] rfl ?_
    exact uX12_readNumber_418 hq
  · replace hq := hq.2 c6
    refine x_aload_n 1 dX12_readNumber_340 rfl ?_
    refine x_iload_n 2 dX12_readNumber_341 rfl ?_
    obtain ⟨g7, hq⟩ := hq
    obtain ⟨g8, g9, hq⟩ := hq
    refine x_callV (Yc := YX12_goOn) (as := [.int x1]) (st := []) q4737 mvX12_goOn g7 rfl dX12_readNumber_342 (xle (xal1 (rv_cat _) (xal1 rfl xal0)) (by decide)) (xfr g8) (xlo xsw0 (by decide) g9) (xKv hq (fun h10 hq e12 => ?_) (fun _ _ q _ => q))
    replace hq := hq e12
    refine x_iload 15 dX12_readNumber_345 rfl ?_
    refine x_if_eq (tgt := 355) dX12_readNumber_347 (by decide) (fun c13 => ?_) (fun c13 => ?_)
    · replace hq := hq.1 c13
      refine xP.pick (lv' := [(0, rv x0), (1, .int x1), (2, .int x2), (3, rv x3), (5, .int x5), (6, .int x6), (7, .int x7), (8, .int x8), (9, .int x9), (10, .long x10), (13, .int x13), (14, .int x14), (17, .int x17)]) [1, 2, 3, 4, 5, 6, 7, 8, 9, 10, 11, 12, 14] rfl ?_
      exact uX12_readNumber_355 hq
    · replace hq := hq.2 c13
      refine x_aload_n 1 dX12_readNumber_350 rfl ?_
      refine x_iload_n 2 dX12_readNumber_351 rfl ?_
      have t14 : tg h10 x0 = 13 := e12.tg g7 (by decide)
      obtain ⟨g15, g16, hq⟩ := hq
      refine x_callV (Yc := YX12_goOn) (as := [.int x1]) (st := []) q4737 mvX12_goOn t14 rfl dX12_readNumber_352 (xle (xal1 (rv_cat _) (xal1 rfl xal0)) (by decide)) (xfr g15) (xlo xsw0 (by decide) g16) (xKv hq (fun h17 hq e19 => ?_) (fun _ _ q _ => q))
      replace hq := hq e19
      refine xP.pick (lv' := [(0, rv x0), (1, .int x1), (2, .int x2), (3, rv x3), (5, .int x5), (6, .int x6), (7, .int x7), (8, .int x8), (9, .int x9), (10, .long x10), (13, .int x13), (14, .int x14), (17, .int x17)]) [1, 2, 3, 4, 5, 6, 7, 8, 9, 10, 11, 12, 14] rfl ?_
      exact uX12_readNumber_355 hq
set_option maxRecDepth 100000 in
def bX12_readNumber_307 (G : xG) (fr lo : Nat) (x0 : Nat) (x1 : Int32) (x2 : Int32) (x3 : Nat) (x5 : Int32) (x6 : Int32) (x7 : Int32) (x8 : Int32) (x9 : Int32) (x10 : Int64) (x13 : Int32) (x14 : Int32) (x15 : Int32) (x16 : Int32) (x17 : Int32) (s0 : Int32) (h : xH) (Q : Outcome → xH → Prop) : Prop := ((s0 = 0 → bX12_readNumber_330 G fr lo x0 x1 x2 x3 x5 x6 x7 x8 x9 x10 x13 x14 x15 x17 s0 x17 h Q) ∧ (¬ s0 = 0 → tg h x0 = 13 ∧ tg h (fR h x0 3196) = 100 ∧ vp_in x16 (ln h (fR h x0 3196)) ∧ 1 ≤ fr ∧ 13 ≤ lo ∧ xRi G YX12_signBehind (fr - 1) (lo - 13) [rv x0, .int (aI h (fR h x0 3196) (Int32.toNatClampNeg x16))] h (fun x8 h7 => xext h h7 → bX12_readNumber_330 G fr lo x0 x1 x2 x3 x5 x6 x7 x8 x9 x10 x13 x14 x15 x17 s0 x8 h7 Q) (fun r h2 => Q (.threw r) h2)))
set_option maxRecDepth 100000 in
theorem uX12_readNumber_307 {G : xG} {fr lo : Nat} {x0 : Nat} {x1 : Int32} {x2 : Int32} {x3 : Nat} {x5 : Int32} {x6 : Int32} {x7 : Int32} {x8 : Int32} {x9 : Int32} {x10 : Int64} {x13 : Int32} {x14 : Int32} {x15 : Int32} {x16 : Int32} {x17 : Int32} {s0 : Int32} {h : xH} {Q : Outcome → xH → Prop} (hq : bX12_readNumber_307 G fr lo x0 x1 x2 x3 x5 x6 x7 x8 x9 x10 x13 x14 x15 x16 x17 s0 h Q) : xP G YX12_readNumber fr lo 307 [(0, rv x0), (1, .int x1), (2, .int x2), (3, rv x3), (5, .int x5), (6, .int x6), (7, .int x7), (8, .int x8), (9, .int x9), (10, .long x10), (13, .int x13), (14, .int x14), (15, .int x15), (16, .int x16), (17, .int x17)] [.int s0] h Q := by
  unfold bX12_readNumber_307 at hq
  refine x_istore (lv' := [(18, .int s0), (0, rv x0), (1, .int x1), (2, .int x2), (3, rv x3), (5, .int x5), (6, .int x6), (7, .int x7), (8, .int x8), (9, .int x9), (10, .long x10), (13, .int x13), (14, .int x14), (15, .int x15), (16, .int x16), (17, .int x17)]) dX12_readNumber_307 (by decide) rfl ?_
  refine x_iload 0 dX12_readNumber_309 rfl ?_
  refine x_if_eq (tgt := 328) dX12_readNumber_311 (by decide) (fun c1 => ?_) (fun c1 => ?_)
  · replace hq := hq.1 c1
    refine x_iload 15 dX12_readNumber_328 rfl ?_
    refine xP.pick (lv' := [(0, rv x0), (1, .int x1), (2, .int x2), (3, rv x3), (5, .int x5), (6, .int x6), (7, .int x7), (8, .int x8), (9, .int x9), (10, .long x10), (13, .int x13), (14, .int x14), (15, .int x15), (17, .int x17), (18, .int s0)]) [1, 2, 3, 4, 5, 6, 7, 8, 9, 10, 11, 12, 13, 15, 0] rfl ?_
    exact uX12_readNumber_330 hq
  · replace hq := hq.2 c1
    refine x_aload_n 1 dX12_readNumber_314 rfl ?_
    refine x_aload_n 1 dX12_readNumber_315 rfl ?_
    obtain ⟨g2, hq⟩ := hq
    refine x_get (v := rv (fR h x0 3196)) fdX12_241 dX12_readNumber_316 g2 rfl ?_
    refine x_iload 14 dX12_readNumber_319 rfl ?_
    obtain ⟨g3, hq⟩ := hq
    obtain ⟨i4, hq⟩ := hq
    refine x_iald 0 (Or.inl rfl) g3 i4 dX12_readNumber_321 ?_
    obtain ⟨g5, g6, hq⟩ := hq
    refine x_callV (Yc := YX12_signBehind) (as := [.int (aI h (fR h x0 3196) (Int32.toNatClampNeg x16))]) (st := []) q4747 mvX12_signBehind g2 rfl dX12_readNumber_322 (xle (xal1 (rv_cat _) (xal1 rfl xal0)) (by decide)) (xfr g5) (xlo xsw0 (by decide) g6) (xKi hq (fun x8 h7 hq e9 => ?_) (fun _ _ q _ => q))
    replace hq := hq e9
    refine x_goto (tgt := 330) dX12_readNumber_325 (by decide) ?_
    refine xP.pick (lv' := [(0, rv x0), (1, .int x1), (2, .int x2), (3, rv x3), (5, .int x5), (6, .int x6), (7, .int x7), (8, .int x8), (9, .int x9), (10, .long x10), (13, .int x13), (14, .int x14), (15, .int x15), (17, .int x17), (18, .int s0)]) [1, 2, 3, 4, 5, 6, 7, 8, 9, 10, 11, 12, 13, 15, 0] rfl ?_
    exact uX12_readNumber_330 hq
set_option maxRecDepth 100000 in
def bX12_readNumber_302 (G : xG) (fr lo : Nat) (x0 : Nat) (x1 : Int32) (x2 : Int32) (x3 : Nat) (x5 : Int32) (x6 : Int32) (x7 : Int32) (x8 : Int32) (x9 : Int32) (x10 : Int64) (x13 : Int32) (x14 : Int32) (x15 : Int32) (x16 : Int32) (x17 : Int32) (h : xH) (Q : Outcome → xH → Prop) : Prop := bX12_readNumber_307 G fr lo x0 x1 x2 x3 x5 x6 x7 x8 x9 x10 x13 x14 x15 x16 x17 1 h Q
set_option maxRecDepth 100000 in
theorem uX12_readNumber_302 {G : xG} {fr lo : Nat} {x0 : Nat} {x1 : Int32} {x2 : Int32} {x3 : Nat} {x5 : Int32} {x6 : Int32} {x7 : Int32} {x8 : Int32} {x9 : Int32} {x10 : Int64} {x13 : Int32} {x14 : Int32} {x15 : Int32} {x16 : Int32} {x17 : Int32} {h : xH} {Q : Outcome → xH → Prop} (hq : bX12_readNumber_302 G fr lo x0 x1 x2 x3 x5 x6 x7 x8 x9 x10 x13 x14 x15 x16 x17 h Q) : xP G YX12_readNumber fr lo 302 [(0, rv x0), (1, .int x1), (2, .int x2), (3, rv x3), (5, .int x5), (6, .int x6), (7, .int x7), (8, .int x8), (9, .int x9), (10, .long x10), (13, .int x13), (14, .int x14), (15, .int x15), (16, .int x16), (17, .int x17)] [] h Q := by
  unfold bX12_readNumber_302 at hq
  refine x_iconst (v := 1) dX12_readNumber_302 (by decide) ?_
  refine x_goto (tgt := 307) dX12_readNumber_303 (by decide) ?_
  exact uX12_readNumber_307 hq
set_option maxRecDepth 100000 in
def bX12_readNumber_272 (G : xG) (fr lo : Nat) (x0 : Nat) (x1 : Int32) (x2 : Int32) (x3 : Nat) (x5 : Int32) (x6 : Int32) (x7 : Int32) (x8 : Int32) (x9 : Int32) (x10 : Int64) (x13 : Int32) (x14 : Int32) (x15 : Int32) (h : xH) (Q : Outcome → xH → Prop) : Prop := tg h x0 = 13 ∧ tg h (fR h x0 3185) = 100 ∧ vp_in x1 (ln h (fR h x0 3185)) ∧ 1 ≤ fr ∧ 13 ≤ lo ∧ xRi G YX12_signBehind (fr - 1) (lo - 13) [rv x0, .int (aI h (fR h x0 3185) (Int32.toNatClampNeg x1))] h (fun x7 h6 => xext h h6 → ((x7 = 43 → bX12_readNumber_302 G fr lo x0 x1 x2 x3 x5 x6 x7 x8 x9 x10 x13 x14 x15 (aI h (fR h x0 3185) (Int32.toNatClampNeg x1)) x7 h6 Q) ∧ (¬ x7 = 43 → ((¬ x7 = 45 → bX12_readNumber_307 G fr lo x0 x1 x2 x3 x5 x6 x7 x8 x9 x10 x13 x14 x15 (aI h (fR h x0 3185) (Int32.toNatClampNeg x1)) x7 0 h6 Q) ∧ (x7 = 45 → bX12_readNumber_302 G fr lo x0 x1 x2 x3 x5 x6 x7 x8 x9 x10 x13 x14 x15 (aI h (fR h x0 3185) (Int32.toNatClampNeg x1)) x7 h6 Q))))) (fun r h2 => Q (.threw r) h2)
set_option maxRecDepth 100000 in
theorem uX12_readNumber_272 {G : xG} {fr lo : Nat} {x0 : Nat} {x1 : Int32} {x2 : Int32} {x3 : Nat} {x5 : Int32} {x6 : Int32} {x7 : Int32} {x8 : Int32} {x9 : Int32} {x10 : Int64} {x13 : Int32} {x14 : Int32} {x15 : Int32} {h : xH} {Q : Outcome → xH → Prop} (hq : bX12_readNumber_272 G fr lo x0 x1 x2 x3 x5 x6 x7 x8 x9 x10 x13 x14 x15 h Q) : xP G YX12_readNumber fr lo 272 [(0, rv x0), (1, .int x1), (2, .int x2), (3, rv x3), (5, .int x5), (6, .int x6), (7, .int x7), (8, .int x8), (9, .int x9), (10, .long x10), (13, .int x13), (14, .int x14), (15, .int x15)] [] h Q := by
  unfold bX12_readNumber_272 at hq
  refine x_aload_n 0 dX12_readNumber_272 rfl ?_
  obtain ⟨g1, hq⟩ := hq
  refine x_get (v := rv (fR h x0 3185)) fdX12_213 dX12_readNumber_273 g1 rfl ?_
  refine x_iload_n 1 dX12_readNumber_276 rfl ?_
  obtain ⟨g2, hq⟩ := hq
  obtain ⟨i3, hq⟩ := hq
  refine x_iald 0 (Or.inl rfl) g2 i3 dX12_readNumber_277 ?_
  refine x_istore (lv' := [(16, .int (aI h (fR h x0 3185) (Int32.toNatClampNeg x1))), (0, rv x0), (1, .int x1), (2, .int x2), (3, rv x3), (5, .int x5), (6, .int x6), (7, .int x7), (8, .int x8), (9, .int x9), (10, .long x10), (13, .int x13), (14, .int x14), (15, .int x15)]) dX12_readNumber_278 (by decide) rfl ?_
  refine x_aload_n 1 dX12_readNumber_280 rfl ?_
  refine x_iload 0 dX12_readNumber_281 rfl ?_
  obtain ⟨g4, g5, hq⟩ := hq
  refine x_callV (Yc := YX12_signBehind) (as := [.int (aI h (fR h x0 3185) (Int32.toNatClampNeg x1))]) (st := []) q4747 mvX12_signBehind g1 rfl dX12_readNumber_283 (xle (xal1 (rv_cat _) (xal1 rfl xal0)) (by decide)) (xfr g4) (xlo xsw0 (by decide) g5) (xKi hq (fun x7 h6 hq e8 => ?_) (fun _ _ q _ => q))
  replace hq := hq e8
  refine x_istore (lv' := [(17, .int x7), (16, .int (aI h (fR h x0 3185) (Int32.toNatClampNeg x1))), (0, rv x0), (1, .int x1), (2, .int x2), (3, rv x3), (5, .int x5), (6, .int x6), (7, .int x7), (8, .int x8), (9, .int x9), (10, .long x10), (13, .int x13), (14, .int x14), (15, .int x15)]) dX12_readNumber_286 (by decide) rfl ?_
  refine x_iload 0 dX12_readNumber_288 rfl ?_
  refine x_bipush (v := 43) dX12_readNumber_290 (by decide) ?_
  refine x_icmp_eq (tgt := 302) dX12_readNumber_292 (by decide) (fun c9 => ?_) (fun c9 => ?_)
  · replace hq := hq.1 c9
    refine xP.pick (lv' := [(0, rv x0), (1, .int x1), (2, .int x2), (3, rv x3), (5, .int x5), (6, .int x6), (7, .int x7), (8, .int x8), (9, .int x9), (10, .long x10), (13, .int x13), (14, .int x14), (15, .int x15), (16, .int (aI h (fR h x0 3185) (Int32.toNatClampNeg x1))), (17, .int x7)]) [2, 3, 4, 5, 6, 7, 8, 9, 10, 11, 12, 13, 14, 1, 0] rfl ?_
    exact uX12_readNumber_302 hq
  · replace hq := hq.2 c9
    refine x_iload 0 dX12_readNumber_295 rfl ?_
    refine x_bipush (v := 45) dX12_readNumber_297 (by decide) ?_
    refine x_icmp_ne (tgt := 306) dX12_readNumber_299 (by decide) (fun c10 => ?_) (fun c10 => ?_)
    · replace hq := hq.1 c10
      refine x_iconst (v := 0) dX12_readNumber_306 (by decide) ?_
      refine xP.pick (lv' := [(0, rv x0), (1, .int x1), (2, .int x2), (3, rv x3), (5, .int x5), (6, .int x6), (7, .int x7), (8, .int x8), (9, .int x9), (10, .long x10), (13, .int x13), (14, .int x14), (15, .int x15), (16, .int (aI h (fR h x0 3185) (Int32.toNatClampNeg x1))), (17, .int x7)]) [2, 3, 4, 5, 6, 7, 8, 9, 10, 11, 12, 13, 14, 1, 0] rfl ?_
      exact uX12_readNumber_307 hq
    · replace hq := hq.2 c10
      refine xP.pick (lv' := [(0, rv x0), (1, .int x1), (2, .int x2), (3, rv x3), (5, .int x5), (6, .int x6), (7, .int x7), (8, .int x8), (9, .int x9), (10, .long x10), (13, .int x13), (14, .int x14), (15, .int x15), (16, .int (aI h (fR h x0 3185) (Int32.toNatClampNeg x1))), (17, .int x7)]) [2, 3, 4, 5, 6, 7, 8, 9, 10, 11, 12, 13, 14, 1, 0] rfl ?_
      exact uX12_readNumber_302 hq
set_option maxRecDepth 100000 in
def bX12_readNumber_233 (G : xG) (fr lo : Nat) (x0 : Nat) (x1 : Int32) (x2 : Int32) (x3 : Nat) (x5 : Int32) (x6 : Int32) (x7 : Int32) (x8 : Int32) (x9 : Int32) (x10 : Int64) (h : xH) (Q : Outcome → xH → Prop) : Prop := ((¬ x7 = 0 → bX12_readNumber_418 G fr lo x0 x1 x2 x3 x5 x6 x7 x8 x9 x10 0 0 0 h Q) ∧ (x7 = 0 → ((x8 ≤ 0 → bX12_readNumber_418 G fr lo x0 x1 x2 x3 x5 x6 x7 x8 x9 x10 0 0 0 h Q) ∧ (¬ x8 ≤ 0 → tg h x0 = 13 ∧ 1 ≤ fr ∧ 13 ≤ lo ∧ xRi G YX12_signHere (fr - 1) (lo - 13) [rv x0, .int x1] h (fun x7 h6 => xext h h6 → ((x7 = 101 → bX12_readNumber_272 G fr lo x0 x1 x2 x3 x5 x6 x7 x8 x9 x10 0 0 0 h6 Q) ∧ (¬ x7 = 101 → 1 ≤ fr ∧ 13 ≤ lo ∧ xRi G YX12_signHere (fr - 1) (lo - 13) [rv x0, .int x1] h6 (fun x14 h13 => xext h6 h13 → ((¬ x14 = 69 → bX12_readNumber_418 G fr lo x0 x1 x2 x3 x5 x6 x7 x8 x9 x10 0 0 0 h13 Q) ∧ (x14 = 69 → bX12_readNumber_272 G fr lo x0 x1 x2 x3 x5 x6 x7 x8 x9 x10 0 0 0 h13 Q))) (fun r h2 => Q (.threw r) h2)))) (fun r h2 => Q (.threw r) h2)))))
set_option maxRecDepth 100000 in
theorem uX12_readNumber_233 {G : xG} {fr lo : Nat} {x0 : Nat} {x1 : Int32} {x2 : Int32} {x3 : Nat} {x5 : Int32} {x6 : Int32} {x7 : Int32} {x8 : Int32} {x9 : Int32} {x10 : Int64} {h : xH} {Q : Outcome → xH → Prop} (hq : bX12_readNumber_233 G fr lo x0 x1 x2 x3 x5 x6 x7 x8 x9 x10 h Q) : xP G YX12_readNumber fr lo 233 [(0, rv x0), (1, .int x1), (2, .int x2), (3, rv x3), (5, .int x5), (6, .int x6), (7, .int x7), (8, .int x8), (9, .int x9), (10, .long x10)] [] h Q := by
  unfold bX12_readNumber_233 at hq
  refine x_iconst (v := 0) dX12_readNumber_233 (by decide) ?_
  refine x_istore (lv' := [(13, .int 0), (0, rv x0), (1, .int x1), (2, .int x2), (3, rv x3), (5, .int x5), (6, .int x6), (7, .int x7), (8, .int x8), (9, .int x9), (10, .long x10)]) dX12_readNumber_234 (by decide) rfl ?_
  refine x_iconst (v := 0) dX12_readNumber_236 (by decide) ?_
  refine x_istore (lv' := [(14, .int 0), (13, .int 0), (0, rv x0), (1, .int x1), (2, .int x2), (3, rv x3), (5, .int x5), (6, .int x6), (7, .int x7), (8, .int x8), (9, .int x9), (10, .long x10)]) dX12_readNumber_237 (by decide) rfl ?_
  refine x_iconst (v := 0) dX12_readNumber_239 (by decide) ?_
  refine x_istore (lv' := [(15, .int 0), (14, .int 0), (13, .int 0), (0, rv x0), (1, .int x1), (2, .int x2), (3, rv x3), (5, .int x5), (6, .int x6), (7, .int x7), (8, .int x8), (9, .int x9), (10, .long x10)]) dX12_readNumber_240 (by decide) rfl ?_
  refine x_iload 9 dX12_readNumber_242 rfl ?_
  refine x_if_ne (tgt := 418) dX12_readNumber_244 (by decide) (fun c1 => ?_) (fun c1 => ?_)
  · replace hq := hq.1 c1
    refine xP.pick (lv' := [(0, rv x0), (1, .int x1), (2, .int x2), (3, rv x3), (5, .int x5), (6, .int x6), (7, .int x7), (8, .int x8), (9, .int x9), (10, .long x10), (13, .int 0), (14, .int 0), (15, .int 0)]) [3, 4, 5, 6, 7, 8, 9, 10, 11, 12, 2, 1, 0] rfl ?_
    exact uX12_readNumber_418 hq
  · replace hq := hq.2 c1
    refine x_iload 10 dX12_readNumber_247 rfl ?_
    refine x_if_le (tgt := 418) dX12_readNumber_249 (by decide) (fun c2 => ?_) (fun c2 => ?_)
    · replace hq := hq.1 c2
      refine xP.pick (lv' := [(0, rv x0), (1, .int x1), (2, .int x2), (3, rv x3), (5, .int x5), (6, .int x6), (7, .int x7), (8, .int x8), (9, .int x9), (10, .long x10), (13, .int 0), (14, .int 0), (15, .int 0)]) [3, 4, 5, 6, 7, 8, 9, 10, 11, 12, 2, 1, 0] rfl ?_
      exact uX12_readNumber_418 hq
    · replace hq := hq.2 c2
      refine x_aload_n 3 dX12_readNumber_252 rfl ?_
      refine x_iload_n 4 dX12_readNumber_253 rfl ?_
      obtain ⟨g3, hq⟩ := hq
      obtain ⟨g4, g5, hq⟩ := hq
      refine x_callV (Yc := YX12_signHere) (as := [.int x1]) (st := []) q4733 mvX12_signHere g3 rfl dX12_readNumber_254 (xle (xal1 (rv_cat _) (xal1 rfl xal0)) (by decide)) (xfr g4) (xlo xsw0 (by decide) g5) (xKi hq (fun x7 h6 hq e8 => ?_) (fun _ _ q _ => q))
      replace hq := hq e8
      refine x_bipush (v := 101) dX12_readNumber_257 (by decide) ?_
      refine x_icmp_eq (tgt := 272) dX12_readNumber_259 (by decide) (fun c9 => ?_) (fun c9 => ?_)
      · replace hq := hq.1 c9
        refine xP.pick (lv' := [(0, rv x0), (1, .int x1), (2, .int x2), (3, rv x3), (5, .int x5), (6, .int x6), (7, .int x7), (8, .int x8), (9, .int x9), (10, .long x10), (13, .int 0), (14, .int 0), (15, .int 0)]) [3, 4, 5, 6, 7, 8, 9, 10, 11, 12, 2, 1, 0] rfl ?_
        exact uX12_readNumber_272 hq
      · replace hq := hq.2 c9
        refine x_aload_n 3 dX12_readNumber_262 rfl ?_
        refine x_iload_n 4 dX12_readNumber_263 rfl ?_
        have t10 : tg h6 x0 = 13 := e8.tg g3 (by decide)
        obtain ⟨g11, g12, hq⟩ := hq
        refine x_callV (Yc := YX12_signHere) (as := [.int x1]) (st := []) q4733 mvX12_signHere t10 rfl dX12_readNumber_264 (xle (xal1 (rv_cat _) (xal1 rfl xal0)) (by decide)) (xfr g11) (xlo xsw0 (by decide) g12) (xKi hq (fun x14 h13 hq e15 => ?_) (fun _ _ q _ => q))
        replace hq := hq e15
        refine x_bipush (v := 69) dX12_readNumber_267 (by decide) ?_
        refine x_icmp_ne (tgt := 418) dX12_readNumber_269 (by decide) (fun c16 => ?_) (fun c16 => ?_)
        · replace hq := hq.1 c16
          refine xP.pick (lv' := [(0, rv x0), (1, .int x1), (2, .int x2), (3, rv x3), (5, .int x5), (6, .int x6), (7, .int x7), (8, .int x8), (9, .int x9), (10, .long x10), (13, .int 0), (14, .int 0), (15, .int 0)]) [3, 4, 5, 6, 7, 8, 9, 10, 11, 12, 2, 1, 0] rfl ?_
          exact uX12_readNumber_418 hq
        · replace hq := hq.2 c16
          refine xP.pick (lv' := [(0, rv x0), (1, .int x1), (2, .int x2), (3, rv x3), (5, .int x5), (6, .int x6), (7, .int x7), (8, .int x8), (9, .int x9), (10, .long x10), (13, .int 0), (14, .int 0), (15, .int 0)]) [3, 4, 5, 6, 7, 8, 9, 10, 11, 12, 2, 1, 0] rfl ?_
          exact uX12_readNumber_272 hq
set_option maxRecDepth 100000 in
def bX12_readNumber_225 (G : xG) (fr lo : Nat) (x0 : Nat) (x1 : Int32) (x2 : Int32) (x3 : Nat) (x5 : Int32) (x6 : Int32) (x7 : Int32) (x8 : Int32) (x9 : Int32) (x10 : Int64) (x12 : Int32) (h : xH) (Q : Outcome → xH → Prop) : Prop := tg h x0 = 13 ∧ 1 ≤ fr ∧ 15 ≤ lo ∧ xRv G YX12_goOn (fr - 1) (lo - 15) [rv x0, .int x1] h (fun h4 => xext h h4 → lX12_readNumber_111 G fr lo x0 x1 x2 x3 x5 x6 x7 x8 x9 x10 x12 h4 Q) (fun r h2 => Q (.threw r) h2)
set_option maxRecDepth 100000 in
theorem uX12_readNumber_225 {G : xG} {fr lo : Nat} {x0 : Nat} {x1 : Int32} {x2 : Int32} {x3 : Nat} {x5 : Int32} {x6 : Int32} {x7 : Int32} {x8 : Int32} {x9 : Int32} {x10 : Int64} {x12 : Int32} {h : xH} {Q : Outcome → xH → Prop} (hq : bX12_readNumber_225 G fr lo x0 x1 x2 x3 x5 x6 x7 x8 x9 x10 x12 h Q) : xP G YX12_readNumber fr lo 225 [(0, rv x0), (1, .int x1), (2, .int x2), (3, rv x3), (5, .int x5), (6, .int x6), (7, .int x7), (8, .int x8), (9, .int x9), (10, .long x10), (12, .int x12)] [] h Q := by
  unfold bX12_readNumber_225 at hq
  refine x_aload_n 0 dX12_readNumber_225 rfl ?_
  refine x_iload_n 1 dX12_readNumber_226 rfl ?_
  obtain ⟨g1, hq⟩ := hq
  obtain ⟨g2, g3, hq⟩ := hq
  refine x_callV (Yc := YX12_goOn) (as := [.int x1]) (st := []) q4737 mvX12_goOn g1 rfl dX12_readNumber_227 (xle (xal1 (rv_cat _) (xal1 rfl xal0)) (by decide)) (xfr g2) (xlo xsw0 (by decide) g3) (xKv hq (fun h4 hq e6 => ?_) (fun _ _ q _ => q))
  replace hq := hq e6
  refine x_goto (tgt := 111) dX12_readNumber_230 (by decide) ?_
  exact hq
set_option maxRecDepth 100000 in
def bX12_readNumber_222 (G : xG) (fr lo : Nat) (x0 : Nat) (x1 : Int32) (x2 : Int32) (x3 : Nat) (x5 : Int32) (x6 : Int32) (x7 : Int32) (x8 : Int32) (x10 : Int64) (x12 : Int32) (s0 : Int32) (s1 : Int32) (h : xH) (Q : Outcome → xH → Prop) : Prop := bX12_readNumber_225 G fr lo x0 x1 x2 x3 x5 x6 x7 x8 (s1 + s0) x10 x12 h Q
set_option maxRecDepth 100000 in
theorem uX12_readNumber_222 {G : xG} {fr lo : Nat} {x0 : Nat} {x1 : Int32} {x2 : Int32} {x3 : Nat} {x5 : Int32} {x6 : Int32} {x7 : Int32} {x8 : Int32} {x10 : Int64} {x12 : Int32} {s0 : Int32} {s1 : Int32} {h : xH} {Q : Outcome → xH → Prop} (hq : bX12_readNumber_222 G fr lo x0 x1 x2 x3 x5 x6 x7 x8 x10 x12 s0 s1 h Q) : xP G YX12_readNumber fr lo 222 [(0, rv x0), (1, .int x1), (2, .int x2), (3, rv x3), (5, .int x5), (6, .int x6), (7, .int x7), (8, .int x8), (10, .long x10), (12, .int x12)] [.int s0, .int s1] h Q := by
  unfold bX12_readNumber_222 at hq
  refine x_iadd dX12_readNumber_222 ?_
  refine x_istore (lv' := [(9, .int (s1 + s0)), (0, rv x0), (1, .int x1), (2, .int x2), (3, rv x3), (5, .int x5), (6, .int x6), (7, .int x7), (8, .int x8), (10, .long x10), (12, .int x12)]) dX12_readNumber_223 (by decide) rfl ?_
  refine xP.pick (lv' := [(0, rv x0), (1, .int x1), (2, .int x2), (3, rv x3), (5, .int x5), (6, .int x6), (7, .int x7), (8, .int x8), (9, .int (s1 + s0)), (10, .long x10), (12, .int x12)]) [1, 2, 3, 4, 5, 6, 7, 8, 0, 9, 10] rfl ?_
  exact uX12_readNumber_225 hq
set_option maxRecDepth 100000 in
def bX12_readNumber_207 (G : xG) (fr lo : Nat) (x0 : Nat) (x1 : Int32) (x2 : Int32) (x3 : Nat) (x5 : Int32) (x6 : Int32) (x7 : Int32) (x8 : Int32) (x9 : Int32) (x10 : Int64) (x12 : Int32) (h : xH) (Q : Outcome → xH → Prop) : Prop := ((x12 = 0 → bX12_readNumber_222 G fr lo x0 x1 x2 x3 x5 x6 x7 (x8 + 1) x10 x12 0 x9 h Q) ∧ (¬ x12 = 0 → bX12_readNumber_222 G fr lo x0 x1 x2 x3 x5 x6 x7 (x8 + 1) x10 x12 1 x9 h Q))
set_option maxRecDepth 100000 in
theorem uX12_readNumber_207 {G : xG} {fr lo : Nat} {x0 : Nat} {x1 : Int32} {x2 : Int32} {x3 : Nat} {x5 : Int32} {x6 : Int32} {x7 : Int32} {x8 : Int32} {x9 : Int32} {x10 : Int64} {x12 : Int32} {h : xH} {Q : Outcome → xH → Prop} (hq : bX12_readNumber_207 G fr lo x0 x1 x2 x3 x5 x6 x7 x8 x9 x10 x12 h Q) : xP G YX12_readNumber fr lo 207 [(0, rv x0), (1, .int x1), (2, .int x2), (3, rv x3), (5, .int x5), (6, .int x6), (7, .int x7), (8, .int x8), (9, .int x9), (10, .long x10), (12, .int x12)] [] h Q := by
  unfold bX12_readNumber_207 at hq
  refine x_iinc (lv' := [(8, .int (x8 + 1)), (0, rv x0), (1, .int x1), (2, .int x2), (3, rv x3), (5, .int x5), (6, .int x6), (7, .int x7), (9, .int x9), (10, .long x10), (12, .int x12)]) 7 dX12_readNumber_207 rfl (by decide) rfl ?_
  refine x_iload 8 dX12_readNumber_210 rfl ?_
  refine x_iload 10 dX12_readNumber_212 rfl ?_
  refine x_if_eq (tgt := 221) dX12_readNumber_214 (by decide) (fun c1 => ?_) (fun c1 => ?_)
  · replace hq := hq.1 c1
    refine x_iconst (v := 0) dX12_readNumber_221 (by decide) ?_
    refine xP.pick (lv' := [(0, rv x0), (1, .int x1), (2, .int x2), (3, rv x3), (5, .int x5), (6, .int x6), (7, .int x7), (8, .int (x8 + 1)), (10, .long x10), (12, .int x12)]) [1, 2, 3, 4, 5, 6, 7, 0, 9, 10] rfl ?_
    exact uX12_readNumber_222 hq
  · replace hq := hq.2 c1
    refine x_iconst (v := 1) dX12_readNumber_217 (by decide) ?_
    refine x_goto (tgt := 222) dX12_readNumber_218 (by decide) ?_
    refine xP.pick (lv' := [(0, rv x0), (1, .int x1), (2, .int x2), (3, rv x3), (5, .int x5), (6, .int x6), (7, .int x7), (8, .int (x8 + 1)), (10, .long x10), (12, .int x12)]) [1, 2, 3, 4, 5, 6, 7, 0, 9, 10] rfl ?_
    exact uX12_readNumber_222 hq
set_option maxRecDepth 100000 in
def bX12_readNumber_163 (G : xG) (fr lo : Nat) (x0 : Nat) (x1 : Int32) (x2 : Int32) (x3 : Nat) (x5 : Int32) (x6 : Int32) (x7 : Int32) (x8 : Int32) (x9 : Int32) (x10 : Int64) (x12 : Int32) (h : xH) (Q : Outcome → xH → Prop) : Prop := tg h x0 = 13 ∧ 1 ≤ fr ∧ 13 ≤ lo ∧ xRi G YX12_signHere (fr - 1) (lo - 13) [rv x0, .int x1] h (fun x5 h4 => xext h h4 → ((¬ x5 = 46 → ((0 ≤ (lg_cmp x10 100000000000000000) → bX12_readNumber_207 G fr lo x0 x1 x2 x3 x5 x6 x7 x8 x9 x10 x12 h4 Q) ∧ (¬ 0 ≤ (lg_cmp x10 100000000000000000) → 1 ≤ fr ∧ 15 ≤ lo ∧ xRi G YX12_signHere (fr - 1) (lo - 15) [rv x0, .int x1] h4 (fun x13 h12 => xext h4 h12 → bX12_readNumber_207 G fr lo x0 x1 x2 x3 x5 x6 x7 x8 x9 (((10 * x10) + (Int32.toInt64 x13)) - 48) x12 h12 Q) (fun r h2 => Q (.threw r) h2)))) ∧ (x5 = 46 → bX12_readNumber_225 G fr lo x0 x1 x2 x3 x5 x6 x7 x8 x9 x10 1 h4 Q))) (fun r h2 => Q (.threw r) h2)
set_option maxRecDepth 100000 in
theorem uX12_readNumber_163 {G : xG} {fr lo : Nat} {x0 : Nat} {x1 : Int32} {x2 : Int32} {x3 : Nat} {x5 : Int32} {x6 : Int32} {x7 : Int32} {x8 : Int32} {x9 : Int32} {x10 : Int64} {x12 : Int32} {h : xH} {Q : Outcome → xH → Prop} (hq : bX12_readNumber_163 G fr lo x0 x1 x2 x3 x5 x6 x7 x8 x9 x10 x12 h Q) : xP G YX12_readNumber fr lo 163 [(0, rv x0), (1, .int x1), (2, .int x2), (3, rv x3), (5, .int x5), (6, .int x6), (7, .int x7), (8, .int x8), (9, .int x9), (10, .long x10), (12, .int x12)] [] h Q := by
  unfold bX12_readNumber_163 at hq
  refine x_aload_n 0 dX12_readNumber_163 rfl ?_
  refine x_iload_n 1 dX12_readNumber_164 rfl ?_
  obtain ⟨g1, hq⟩ := hq
  obtain ⟨g2, g3, hq⟩ := hq
  refine x_callV (Yc := YX12_signHere) (as := [.int x1]) (st := []) q4733 mvX12_signHere g1 rfl dX12_readNumber_165 (xle (xal1 (rv_cat _) (xal1 rfl xal0)) (by decide)) (xfr g2) (xlo xsw0 (by decide) g3) (xKi hq (fun x5 h4 hq e6 => ?_) (fun _ _ q _ => q))
  replace hq := hq e6
  refine x_bipush (v := 46) dX12_readNumber_168 (by decide) ?_
  refine x_icmp_ne (tgt := 179) dX12_readNumber_170 (by decide) (fun c7 => ?_) (fun c7 => ?_)
  · replace hq := hq.1 c7
    refine x_lload 9 dX12_readNumber_179 rfl ?_
    refine x_ldc2 (v := 100000000000000000) q4751 dX12_readNumber_181 ?_
    refine x_lcmp dX12_readNumber_184 ?_
    refine x_if_ge (tgt := 207) dX12_readNumber_185 (by decide) (fun c8 => ?_) (fun c8 => ?_)
    · replace hq := hq.1 c8
      exact uX12_readNumber_207 hq
    · replace hq := hq.2 c8
      refine x_ldc2 (v := 10) q3750 dX12_readNumber_188 ?_
      refine x_lload 9 dX12_readNumber_191 rfl ?_
      refine x_lmul dX12_readNumber_193 ?_
      refine x_aload_n 0 dX12_readNumber_194 rfl ?_
      refine x_iload_n 1 dX12_readNumber_195 rfl ?_
      have t9 : tg h4 x0 = 13 := e6.tg g1 (by decide)
      obtain ⟨g10, g11, hq⟩ := hq
      refine x_callV (Yc := YX12_signHere) (as := [.int x1]) (st := [.long (10 * x10)]) q4733 mvX12_signHere t9 rfl dX12_readNumber_196 (xle (xal1 (rv_cat _) (xal1 rfl xal0)) (by decide)) (xfr g10) (xlo (xsw2 rfl xsw0) (by decide) g11) (xKi hq (fun x13 h12 hq e14 => ?_) (fun _ _ q _ => q))
      replace hq := hq e14
      refine x_i2l dX12_readNumber_199 ?_
      refine x_ladd dX12_readNumber_200 ?_
      refine x_ldc2 (v := 48) q3751 dX12_readNumber_201 ?_
      refine x_lsub dX12_readNumber_204 ?_
      refine x_lstore (lv' := [(10, .long (((10 * x10) + (Int32.toInt64 x13)) - 48)), (0, rv x0), (1, .int x1), (2, .int x2), (3, rv x3), (5, .int x5), (6, .int x6), (7, .int x7), (8, .int x8), (9, .int x9), (12, .int x12)]) dX12_readNumber_205 (by decide) rfl ?_
      refine xP.pick (lv' := [(0, rv x0), (1, .int x1), (2, .int x2), (3, rv x3), (5, .int x5), (6, .int x6), (7, .int x7), (8, .int x8), (9, .int x9), (10, .long (((10 * x10) + (Int32.toInt64 x13)) - 48)), (12, .int x12)]) [1, 2, 3, 4, 5, 6, 7, 8, 9, 0, 10] rfl ?_
      exact uX12_readNumber_207 hq
  · replace hq := hq.2 c7
    refine x_iconst (v := 1) dX12_readNumber_173 (by decide) ?_
    refine x_istore (lv' := [(12, .int 1), (0, rv x0), (1, .int x1), (2, .int x2), (3, rv x3), (5, .int x5), (6, .int x6), (7, .int x7), (8, .int x8), (9, .int x9), (10, .long x10)]) dX12_readNumber_174 (by decide) rfl ?_
    refine x_goto (tgt := 225) dX12_readNumber_176 (by decide) ?_
    refine xP.pick (lv' := [(0, rv x0), (1, .int x1), (2, .int x2), (3, rv x3), (5, .int x5), (6, .int x6), (7, .int x7), (8, .int x8), (9, .int x9), (10, .long x10), (12, .int 1)]) [1, 2, 3, 4, 5, 6, 7, 8, 9, 10, 0] rfl ?_
    exact uX12_readNumber_225 hq
set_option maxRecDepth 100000 in
def bX12_readNumber_111 (G : xG) (fr lo : Nat) (x0 : Nat) (x1 : Int32) (x2 : Int32) (x3 : Nat) (x5 : Int32) (x6 : Int32) (x7 : Int32) (x8 : Int32) (x9 : Int32) (x10 : Int64) (x12 : Int32) (h : xH) (Q : Outcome → xH → Prop) : Prop := tg h x0 = 13 ∧ 1 ≤ fr ∧ 13 ≤ lo ∧ xRi G YX12_signHere (fr - 1) (lo - 13) [rv x0, .int x1] h (fun x5 h4 => xext h h4 → 1 ≤ fr ∧ 12 ≤ lo ∧ xRi G YX12_isDigit (fr - 1) (lo - 12) [.int x5] h4 (fun x10 h9 => xext h4 h9 → ((¬ x10 = 0 → bX12_readNumber_163 G fr lo x0 x1 x2 x3 x5 x6 x7 x8 x9 x10 x12 h9 Q) ∧ (x10 = 0 → ((¬ x7 = 0 → bX12_readNumber_233 G fr lo x0 x1 x2 x3 x5 x6 x7 x8 x9 x10 h9 Q) ∧ (x7 = 0 → ((¬ x12 = 0 → bX12_readNumber_233 G fr lo x0 x1 x2 x3 x5 x6 x7 x8 x9 x10 h9 Q) ∧ (x12 = 0 → ((x8 ≤ 0 → bX12_readNumber_233 G fr lo x0 x1 x2 x3 x5 x6 x7 x8 x9 x10 h9 Q) ∧ (¬ x8 ≤ 0 → 1 ≤ fr ∧ 13 ≤ lo ∧ xRi G YX12_signHere (fr - 1) (lo - 13) [rv x0, .int x1] h9 (fun x21 h20 => xext h9 h20 → ((¬ x21 = 46 → bX12_readNumber_233 G fr lo x0 x1 x2 x3 x5 x6 x7 x8 x9 x10 h20 Q) ∧ (x21 = 46 → tg h20 (fR h20 x0 3185) = 100 ∧ vp_in x1 (ln h20 (fR h20 x0 3185)) ∧ 1 ≤ fr ∧ 13 ≤ lo ∧ xRi G YX12_signBehind (fr - 1) (lo - 13) [rv x0, .int (aI h20 (fR h20 x0 3185) (Int32.toNatClampNeg x1))] h20 (fun x30 h29 => xext h20 h29 → 1 ≤ fr ∧ 12 ≤ lo ∧ xRi G YX12_isDigit (fr - 1) (lo - 12) [.int x30] h29 (fun x35 h34 => xext h29 h34 → ((x35 = 0 → bX12_readNumber_233 G fr lo x0 x1 x2 x3 x5 x6 x7 x8 x9 x10 h34 Q) ∧ (¬ x35 = 0 → bX12_readNumber_163 G fr lo x0 x1 x2 x3 x5 x6 x7 x8 x9 x10 x12 h34 Q))) (fun r h2 => Q (.threw r) h2)) (fun r h2 => Q (.threw r) h2)))) (fun r h2 => Q (.threw r) h2)))))))))) (fun r h2 => Q (.threw r) h2)) (fun r h2 => Q (.threw r) h2)
set_option maxRecDepth 100000 in
theorem uX12_readNumber_111 {G : xG} {fr lo : Nat} {x0 : Nat} {x1 : Int32} {x2 : Int32} {x3 : Nat} {x5 : Int32} {x6 : Int32} {x7 : Int32} {x8 : Int32} {x9 : Int32} {x10 : Int64} {x12 : Int32} {h : xH} {Q : Outcome → xH → Prop} (hq : bX12_readNumber_111 G fr lo x0 x1 x2 x3 x5 x6 x7 x8 x9 x10 x12 h Q) : xP G YX12_readNumber fr lo 111 [(0, rv x0), (1, .int x1), (2, .int x2), (3, rv x3), (5, .int x5), (6, .int x6), (7, .int x7), (8, .int x8), (9, .int x9), (10, .long x10), (12, .int x12)] [] h Q := by
  unfold bX12_readNumber_111 at hq
  refine x_aload_n 0 dX12_readNumber_111 rfl ?_
  refine x_iload_n 1 dX12_readNumber_112 rfl ?_
  obtain ⟨g1, hq⟩ := hq
  obtain ⟨g2, g3, hq⟩ := hq
  refine x_callV (Yc := YX12_signHere) (as := [.int x1]) (st := []) q4733 mvX12_signHere g1 rfl dX12_readNumber_113 (xle (xal1 (rv_cat _) (xal1 rfl xal0)) (by decide)) (xfr g2) (xlo xsw0 (by decide) g3) (xKi hq (fun x5 h4 hq e6 => ?_) (fun _ _ q _ => q))
  replace hq := hq e6
  obtain ⟨g7, g8, hq⟩ := hq
  refine x_callS (Yc := YX12_isDigit) (as := [.int x5]) (st := []) q3742 msX12_isDigit rfl dX12_readNumber_116 (xle (xal1 rfl xal0) (by decide)) (xfr g7) (xlo xsw0 (by decide) g8) (xKi hq (fun x10 h9 hq e11 => ?_) (fun _ _ q _ => q))
  replace hq := hq e11
  refine x_if_ne (tgt := 163) dX12_readNumber_119 (by decide) (fun c12 => ?_) (fun c12 => ?_)
  · replace hq := hq.1 c12
    exact uX12_readNumber_163 hq
  · replace hq := hq.2 c12
    refine x_iload 6 dX12_readNumber_122 rfl ?_
    refine x_if_ne (tgt := 233) dX12_readNumber_124 (by decide) (fun c13 => ?_) (fun c13 => ?_)
    · replace hq := hq.1 c13
      refine xP.pick (lv' := [(0, rv x0), (1, .int x1), (2, .int x2), (3, rv x3), (5, .int x5), (6, .int x6), (7, .int x7), (8, .int x8), (9, .int x9), (10, .long x10)]) [0, 1, 2, 3, 4, 5, 6, 7, 8, 9] rfl ?_
      exact uX12_readNumber_233 hq
    · replace hq := hq.2 c13
      refine x_iload 10 dX12_readNumber_127 rfl ?_
      refine x_if_ne (tgt := 233) dX12_readNumber_129 (by decide) (fun c14 => ?_) (fun c14 => ?_)
      · replace hq := hq.1 c14
        refine xP.pick (lv' := [(0, rv x0), (1, .int x1), (2, .int x2), (3, rv x3), (5, .int x5), (6, .int x6), (7, .int x7), (8, .int x8), (9, .int x9), (10, .long x10)]) [0, 1, 2, 3, 4, 5, 6, 7, 8, 9] rfl ?_
        exact uX12_readNumber_233 hq
      · replace hq := hq.2 c14
        refine x_iload 7 dX12_readNumber_132 rfl ?_
        refine x_if_le (tgt := 233) dX12_readNumber_134 (by decide) (fun c15 => ?_) (fun c15 => ?_)
        · replace hq := hq.1 c15
          refine xP.pick (lv' := [(0, rv x0), (1, .int x1), (2, .int x2), (3, rv x3), (5, .int x5), (6, .int x6), (7, .int x7), (8, .int x8), (9, .int x9), (10, .long x10)]) [0, 1, 2, 3, 4, 5, 6, 7, 8, 9] rfl ?_
          exact uX12_readNumber_233 hq
        · replace hq := hq.2 c15
          refine x_aload_n 0 dX12_readNumber_137 rfl ?_
          refine x_iload_n 1 dX12_readNumber_138 rfl ?_
          have t16 : tg h4 x0 = 13 := e6.tg g1 (by decide)
          have t17 : tg h9 x0 = 13 := e11.tg t16 (by decide)
          obtain ⟨g18, g19, hq⟩ := hq
          refine x_callV (Yc := YX12_signHere) (as := [.int x1]) (st := []) q4733 mvX12_signHere t17 rfl dX12_readNumber_139 (xle (xal1 (rv_cat _) (xal1 rfl xal0)) (by decide)) (xfr g18) (xlo xsw0 (by decide) g19) (xKi hq (fun x21 h20 hq e22 => ?_) (fun _ _ q _ => q))
          replace hq := hq e22
          refine x_bipush (v := 46) dX12_readNumber_142 (by decide) ?_
          refine x_icmp_ne (tgt := 233) dX12_readNumber_144 (by decide) (fun c23 => ?_) (fun c23 => ?_)
          · replace hq := hq.1 c23
            refine xP.pick (lv' := [(0, rv x0), (1, .int x1), (2, .int x2), (3, rv x3), (5, .int x5), (6, .int x6), (7, .int x7), (8, .int x8), (9, .int x9), (10, .long x10)]) [0, 1, 2, 3, 4, 5, 6, 7, 8, 9] rfl ?_
            exact uX12_readNumber_233 hq
          · replace hq := hq.2 c23
            refine x_aload_n 0 dX12_readNumber_147 rfl ?_
            refine x_aload_n 0 dX12_readNumber_148 rfl ?_
            have t24 : tg h20 x0 = 13 := e22.tg t17 (by decide)
            refine x_get (v := rv (fR h20 x0 3185)) fdX12_213 dX12_readNumber_149 t24 rfl ?_
            refine x_iload_n 1 dX12_readNumber_152 rfl ?_
            obtain ⟨g25, hq⟩ := hq
            obtain ⟨i26, hq⟩ := hq
            refine x_iald 0 (Or.inl rfl) g25 i26 dX12_readNumber_153 ?_
            obtain ⟨g27, g28, hq⟩ := hq
            refine x_callV (Yc := YX12_signBehind) (as := [.int (aI h20 (fR h20 x0 3185) (Int32.toNatClampNeg x1))]) (st := []) q4747 mvX12_signBehind t24 rfl dX12_readNumber_154 (xle (xal1 (rv_cat _) (xal1 rfl xal0)) (by decide)) (xfr g27) (xlo xsw0 (by decide) g28) (xKi hq (fun x30 h29 hq e31 => ?_) (fun _ _ q _ => q))
            replace hq := hq e31
            obtain ⟨g32, g33, hq⟩ := hq
            refine x_callS (Yc := YX12_isDigit) (as := [.int x30]) (st := []) q3742 msX12_isDigit rfl dX12_readNumber_157 (xle (xal1 rfl xal0) (by decide)) (xfr g32) (xlo xsw0 (by decide) g33) (xKi hq (fun x35 h34 hq e36 => ?_) (fun _ _ q _ => q))
            replace hq := hq e36
            refine x_if_eq (tgt := 233) dX12_readNumber_160 (by decide) (fun c37 => ?_) (fun c37 => ?_)
            · replace hq := hq.1 c37
              refine xP.pick (lv' := [(0, rv x0), (1, .int x1), (2, .int x2), (3, rv x3), (5, .int x5), (6, .int x6), (7, .int x7), (8, .int x8), (9, .int x9), (10, .long x10)]) [0, 1, 2, 3, 4, 5, 6, 7, 8, 9] rfl ?_
              exact uX12_readNumber_233 hq
            · replace hq := hq.2 c37
              exact uX12_readNumber_163 hq
set_option maxRecDepth 100000 in
def bX12_readNumber_97 (G : xG) (fr lo : Nat) (x0 : Nat) (x1 : Int32) (x2 : Int32) (x3 : Nat) (x5 : Int32) (x6 : Int32) (s0 : Int32) (h : xH) (Q : Outcome → xH → Prop) : Prop := lX12_readNumber_111 G fr lo x0 x1 x2 x3 x5 x6 s0 0 0 0 0 h Q
set_option maxRecDepth 100000 in
theorem uX12_readNumber_97 {G : xG} {fr lo : Nat} {x0 : Nat} {x1 : Int32} {x2 : Int32} {x3 : Nat} {x5 : Int32} {x6 : Int32} {s0 : Int32} {h : xH} {Q : Outcome → xH → Prop} (hq : bX12_readNumber_97 G fr lo x0 x1 x2 x3 x5 x6 s0 h Q) : xP G YX12_readNumber fr lo 97 [(0, rv x0), (1, .int x1), (2, .int x2), (3, rv x3), (5, .int x5), (6, .int x6)] [.int s0] h Q := by
  unfold bX12_readNumber_97 at hq
  refine x_istore (lv' := [(7, .int s0), (0, rv x0), (1, .int x1), (2, .int x2), (3, rv x3), (5, .int x5), (6, .int x6)]) dX12_readNumber_97 (by decide) rfl ?_
  refine x_iconst (v := 0) dX12_readNumber_99 (by decide) ?_
  refine x_istore (lv' := [(8, .int 0), (7, .int s0), (0, rv x0), (1, .int x1), (2, .int x2), (3, rv x3), (5, .int x5), (6, .int x6)]) dX12_readNumber_100 (by decide) rfl ?_
  refine x_iconst (v := 0) dX12_readNumber_102 (by decide) ?_
  refine x_istore (lv' := [(9, .int 0), (8, .int 0), (7, .int s0), (0, rv x0), (1, .int x1), (2, .int x2), (3, rv x3), (5, .int x5), (6, .int x6)]) dX12_readNumber_103 (by decide) rfl ?_
  refine x_lconst (v := 0) dX12_readNumber_105 (by decide) ?_
  refine x_lstore (lv' := [(10, .long 0), (9, .int 0), (8, .int 0), (7, .int s0), (0, rv x0), (1, .int x1), (2, .int x2), (3, rv x3), (5, .int x5), (6, .int x6)]) dX12_readNumber_106 (by decide) rfl ?_
  refine x_iconst (v := 0) dX12_readNumber_108 (by decide) ?_
  refine x_istore (lv' := [(12, .int 0), (10, .long 0), (9, .int 0), (8, .int 0), (7, .int s0), (0, rv x0), (1, .int x1), (2, .int x2), (3, rv x3), (5, .int x5), (6, .int x6)]) dX12_readNumber_109 (by decide) rfl ?_
  refine xP.pick (lv' := [(0, rv x0), (1, .int x1), (2, .int x2), (3, rv x3), (5, .int x5), (6, .int x6), (7, .int s0), (8, .int 0), (9, .int 0), (10, .long 0), (12, .int 0)]) [5, 6, 7, 8, 9, 10, 4, 3, 2, 1, 0] rfl ?_
  exact hq
set_option maxRecDepth 100000 in
def bX12_readNumber_65 (G : xG) (fr lo : Nat) (x0 : Nat) (x1 : Int32) (x2 : Int32) (x3 : Nat) (x4 : Int32) (x5 : Int32) (x6 : Int32) (h : xH) (Q : Outcome → xH → Prop) : Prop := tg h x0 = 13 ∧ tg h (fR h x0 3185) = 100 ∧ vp_in x1 (ln h (fR h x0 3185)) ∧ ((¬ (aI h (fR h x0 3185) (Int32.toNatClampNeg x1)) = (-1) → tg h x3 = 14 ∧ (((fI h x3 3328) = 2 → bX12_readNumber_97 G fr lo x0 x1 x2 x3 x5 x6 0 h Q) ∧ (¬ (fI h x3 3328) = 2 → bX12_readNumber_97 G fr lo x0 x1 x2 x3 x5 x6 1 h Q))) ∧ ((aI h (fR h x0 3185) (Int32.toNatClampNeg x1)) = (-1) → 1 ≤ fr ∧ 14 ≤ lo ∧ xRv G YX12_error (fr - 1) (lo - 14) [rv x0, .int 10, .int x4] h (fun h9 => xext h h9 → Q (.returned none) h9) (fun r h2 => Q (.threw r) h2)))
set_option maxRecDepth 100000 in
theorem uX12_readNumber_65 {G : xG} {fr lo : Nat} {x0 : Nat} {x1 : Int32} {x2 : Int32} {x3 : Nat} {x4 : Int32} {x5 : Int32} {x6 : Int32} {h : xH} {Q : Outcome → xH → Prop} (hq : bX12_readNumber_65 G fr lo x0 x1 x2 x3 x4 x5 x6 h Q) : xP G YX12_readNumber fr lo 65 [(0, rv x0), (1, .int x1), (2, .int x2), (3, rv x3), (4, .int x4), (5, .int x5), (6, .int x6)] [] h Q := by
  unfold bX12_readNumber_65 at hq
  refine x_aload_n 0 dX12_readNumber_65 rfl ?_
  obtain ⟨g1, hq⟩ := hq
  refine x_get (v := rv (fR h x0 3185)) fdX12_213 dX12_readNumber_66 g1 rfl ?_
  refine x_iload_n 1 dX12_readNumber_69 rfl ?_
  obtain ⟨g2, hq⟩ := hq
  obtain ⟨i3, hq⟩ := hq
  refine x_iald 0 (Or.inl rfl) g2 i3 dX12_readNumber_70 ?_
  refine x_iconst (v := (-1)) dX12_readNumber_71 (by decide) ?_
  refine x_icmp_ne (tgt := 84) dX12_readNumber_72 (by decide) (fun c4 => ?_) (fun c4 => ?_)
  · replace hq := hq.1 c4
    refine x_aload_n 3 dX12_readNumber_84 rfl ?_
    obtain ⟨g5, hq⟩ := hq
    refine x_get (v := .int (fI h x3 3328)) fdX12_845 dX12_readNumber_85 g5 rfl ?_
    refine x_iconst (v := 2) dX12_readNumber_88 (by decide) ?_
    refine x_icmp_eq (tgt := 96) dX12_readNumber_89 (by decide) (fun c6 => ?_) (fun c6 => ?_)
    · replace hq := hq.1 c6
      refine x_iconst (v := 0) dX12_readNumber_96 (by decide) ?_
      refine xP.pick (lv' := [(0, rv x0), (1, .int x1), (2, .int x2), (3, rv x3), (5, .int x5), (6, .int x6)]) [0, 1, 2, 3, 5, 6] rfl ?_
      exact uX12_readNumber_97 hq
    · replace hq := hq.2 c6
      refine x_iconst (v := 1) dX12_readNumber_92 (by decide) ?_
      refine x_goto (tgt := 97) dX12_readNumber_93 (by decide) ?_
      refine xP.pick (lv' := [(0, rv x0), (1, .int x1), (2, .int x2), (3, rv x3), (5, .int x5), (6, .int x6)]) [0, 1, 2, 3, 5, 6] rfl ?_
      exact uX12_readNumber_97 hq
  · replace hq := hq.2 c4
    refine x_aload_n 0 dX12_readNumber_75 rfl ?_
    refine x_bipush (v := 10) dX12_readNumber_76 (by decide) ?_
    refine x_iload 4 dX12_readNumber_78 rfl ?_
    obtain ⟨g7, g8, hq⟩ := hq
    refine x_callV (Yc := YX12_error) (as := [.int 10, .int x4]) (st := []) q4490 mvX12_error g1 rfl dX12_readNumber_80 (xle (xal1 (rv_cat _) (xal1 rfl (xal1 rfl xal0))) (by decide)) (xfr g7) (xlo xsw0 (by decide) g8) (xKv hq (fun h9 hq e11 => ?_) (fun _ _ q _ => q))
    replace hq := hq e11
    exact x_vret rfl dX12_readNumber_83 hq
set_option maxRecDepth 100000 in
def bX12_readNumber_60 (G : xG) (fr lo : Nat) (x0 : Nat) (x1 : Int32) (x2 : Int32) (x3 : Nat) (x4 : Int32) (x5 : Int32) (x6 : Int32) (h : xH) (Q : Outcome → xH → Prop) : Prop := tg h x0 = 13 ∧ 1 ≤ fr ∧ 15 ≤ lo ∧ xRv G YX12_goOn (fr - 1) (lo - 15) [rv x0, .int x1] h (fun h4 => xext h h4 → bX12_readNumber_65 G fr lo x0 x1 x2 x3 x4 x5 x6 h4 Q) (fun r h2 => Q (.threw r) h2)
set_option maxRecDepth 100000 in
theorem uX12_readNumber_60 {G : xG} {fr lo : Nat} {x0 : Nat} {x1 : Int32} {x2 : Int32} {x3 : Nat} {x4 : Int32} {x5 : Int32} {x6 : Int32} {h : xH} {Q : Outcome → xH → Prop} (hq : bX12_readNumber_60 G fr lo x0 x1 x2 x3 x4 x5 x6 h Q) : xP G YX12_readNumber fr lo 60 [(0, rv x0), (1, .int x1), (2, .int x2), (3, rv x3), (4, .int x4), (5, .int x5), (6, .int x6)] [] h Q := by
  unfold bX12_readNumber_60 at hq
  refine x_aload_n 0 dX12_readNumber_60 rfl ?_
  refine x_iload_n 1 dX12_readNumber_61 rfl ?_
  obtain ⟨g1, hq⟩ := hq
  obtain ⟨g2, g3, hq⟩ := hq
  refine x_callV (Yc := YX12_goOn) (as := [.int x1]) (st := []) q4737 mvX12_goOn g1 rfl dX12_readNumber_62 (xle (xal1 (rv_cat _) (xal1 rfl xal0)) (by decide)) (xfr g2) (xlo xsw0 (by decide) g3) (xKv hq (fun h4 hq e6 => ?_) (fun _ _ q _ => q))
  replace hq := hq e6
  exact uX12_readNumber_65 hq
set_option maxRecDepth 100000 in
def bX12_readNumber_43 (G : xG) (fr lo : Nat) (x0 : Nat) (x1 : Int32) (x2 : Int32) (x3 : Nat) (x4 : Int32) (x5 : Int32) (s0 : Int32) (h : xH) (Q : Outcome → xH → Prop) : Prop := ((¬ s0 = 0 → bX12_readNumber_60 G fr lo x0 x1 x2 x3 x4 x5 s0 h Q) ∧ (s0 = 0 → tg h x0 = 13 ∧ 1 ≤ fr ∧ 13 ≤ lo ∧ xRi G YX12_signHere (fr - 1) (lo - 13) [rv x0, .int x1] h (fun x6 h5 => xext h h5 → ((¬ x6 = 43 → bX12_readNumber_65 G fr lo x0 x1 x2 x3 x4 x5 s0 h5 Q) ∧ (x6 = 43 → bX12_readNumber_60 G fr lo x0 x1 x2 x3 x4 x5 s0 h5 Q))) (fun r h2 => Q (.threw r) h2)))
set_option maxRecDepth 100000 in
theorem uX12_readNumber_43 {G : xG} {fr lo : Nat} {x0 : Nat} {x1 : Int32} {x2 : Int32} {x3 : Nat} {x4 : Int32} {x5 : Int32} {s0 : Int32} {h : xH} {Q : Outcome → xH → Prop} (hq : bX12_readNumber_43 G fr lo x0 x1 x2 x3 x4 x5 s0 h Q) : xP G YX12_readNumber fr lo 43 [(0, rv x0), (1, .int x1), (2, .int x2), (3, rv x3), (4, .int x4), (5, .int x5)] [.int s0] h Q := by
  unfold bX12_readNumber_43 at hq
  refine x_istore (lv' := [(6, .int s0), (0, rv x0), (1, .int x1), (2, .int x2), (3, rv x3), (4, .int x4), (5, .int x5)]) dX12_readNumber_43 (by decide) rfl ?_
  refine x_iload 0 dX12_readNumber_45 rfl ?_
  refine x_if_ne (tgt := 60) dX12_readNumber_47 (by decide) (fun c1 => ?_) (fun c1 => ?_)
  · replace hq := hq.1 c1
    refine xP.pick (lv' := [(0, rv x0), (1, .int x1), (2, .int x2), (3, rv x3), (4, .int x4), (5, .int x5), (6, .int s0)]) [1, 2, 3, 4, 5, 6, 0] rfl ?_
    exact uX12_readNumber_60 hq
  · replace hq := hq.2 c1
    refine x_aload_n 1 dX12_readNumber_50 rfl ?_
    refine x_iload_n 2 dX12_readNumber_51 rfl ?_
    obtain ⟨g2, hq⟩ := hq
    obtain ⟨g3, g4, hq⟩ := hq
    refine x_callV (Yc := YX12_signHere) (as := [.int x1]) (st := []) q4733 mvX12_signHere g2 rfl dX12_readNumber_52 (xle (xal1 (rv_cat _) (xal1 rfl xal0)) (by decide)) (xfr g3) (xlo xsw0 (by decide) g4) (xKi hq (fun x6 h5 hq e7 => ?_) (fun _ _ q _ => q))
    replace hq := hq e7
    refine x_bipush (v := 43) dX12_readNumber_55 (by decide) ?_
    refine x_icmp_ne (tgt := 65) dX12_readNumber_57 (by decide) (fun c8 => ?_) (fun c8 => ?_)
    · replace hq := hq.1 c8
      refine xP.pick (lv' := [(0, rv x0), (1, .int x1), (2, .int x2), (3, rv x3), (4, .int x4), (5, .int x5), (6, .int s0)]) [1, 2, 3, 4, 5, 6, 0] rfl ?_
      exact uX12_readNumber_65 hq
    · replace hq := hq.2 c8
      refine xP.pick (lv' := [(0, rv x0), (1, .int x1), (2, .int x2), (3, rv x3), (4, .int x4), (5, .int x5), (6, .int s0)]) [1, 2, 3, 4, 5, 6, 0] rfl ?_
      exact uX12_readNumber_60 hq
set_option maxRecDepth 100000 in
def bX12_readNumber_20 (G : xG) (fr lo : Nat) (x0 : Nat) (x1 : Int32) (x2 : Int32) (x3 : Nat) (x4 : Int32) (x5 : Int32) (h : xH) (Q : Outcome → xH → Prop) : Prop := tg h x0 = 13 ∧ 1 ≤ fr ∧ 15 ≤ lo ∧ xRv G YX12_goOn (fr - 1) (lo - 15) [rv x0, .int x1] h (fun h4 => xext h h4 → lX12_readNumber_0 G fr lo x0 x1 x2 x3 x4 x5 h4 Q) (fun r h2 => Q (.threw r) h2)
set_option maxRecDepth 100000 in
theorem uX12_readNumber_20 {G : xG} {fr lo : Nat} {x0 : Nat} {x1 : Int32} {x2 : Int32} {x3 : Nat} {x4 : Int32} {x5 : Int32} {h : xH} {Q : Outcome → xH → Prop} (hq : bX12_readNumber_20 G fr lo x0 x1 x2 x3 x4 x5 h Q) : xP G YX12_readNumber fr lo 20 [(0, rv x0), (1, .int x1), (2, .int x2), (3, rv x3), (4, .int x4), (5, .int x5)] [] h Q := by
  unfold bX12_readNumber_20 at hq
  refine x_aload_n 0 dX12_readNumber_20 rfl ?_
  refine x_iload_n 1 dX12_readNumber_21 rfl ?_
  obtain ⟨g1, hq⟩ := hq
  obtain ⟨g2, g3, hq⟩ := hq
  refine x_callV (Yc := YX12_goOn) (as := [.int x1]) (st := []) q4737 mvX12_goOn g1 rfl dX12_readNumber_22 (xle (xal1 (rv_cat _) (xal1 rfl xal0)) (by decide)) (xfr g2) (xlo xsw0 (by decide) g3) (xKv hq (fun h4 hq e6 => ?_) (fun _ _ q _ => q))
  replace hq := hq e6
  refine x_goto (tgt := 0) dX12_readNumber_25 (by decide) ?_
  exact hq
set_option maxRecDepth 100000 in
def bX12_readNumber_0 (G : xG) (fr lo : Nat) (x0 : Nat) (x1 : Int32) (x2 : Int32) (x3 : Nat) (x4 : Int32) (x5 : Int32) (h : xH) (Q : Outcome → xH → Prop) : Prop := tg h x0 = 13 ∧ 1 ≤ fr ∧ 13 ≤ lo ∧ xRi G YX12_signHere (fr - 1) (lo - 13) [rv x0, .int x1] h (fun x5 h4 => xext h h4 → ((x5 = 32 → bX12_readNumber_20 G fr lo x0 x1 x2 x3 x4 x5 h4 Q) ∧ (¬ x5 = 32 → 1 ≤ fr ∧ 13 ≤ lo ∧ xRi G YX12_signHere (fr - 1) (lo - 13) [rv x0, .int x1] h4 (fun x12 h11 => xext h4 h11 → ((¬ x12 = 10 → 1 ≤ fr ∧ 13 ≤ lo ∧ xRi G YX12_signHere (fr - 1) (lo - 13) [rv x0, .int x1] h11 (fun x19 h18 => xext h11 h18 → ((¬ x19 = 45 → bX12_readNumber_43 G fr lo x0 x1 x2 x3 x4 x5 0 h18 Q) ∧ (x19 = 45 → bX12_readNumber_43 G fr lo x0 x1 x2 x3 x4 x5 1 h18 Q))) (fun r h2 => Q (.threw r) h2)) ∧ (x12 = 10 → bX12_readNumber_20 G fr lo x0 x1 x2 x3 x4 x5 h11 Q))) (fun r h2 => Q (.threw r) h2)))) (fun r h2 => Q (.threw r) h2)
set_option maxRecDepth 100000 in
theorem uX12_readNumber_0 {G : xG} {fr lo : Nat} {x0 : Nat} {x1 : Int32} {x2 : Int32} {x3 : Nat} {x4 : Int32} {x5 : Int32} {h : xH} {Q : Outcome → xH → Prop} (hq : bX12_readNumber_0 G fr lo x0 x1 x2 x3 x4 x5 h Q) : xP G YX12_readNumber fr lo 0 [(0, rv x0), (1, .int x1), (2, .int x2), (3, rv x3), (4, .int x4), (5, .int x5)] [] h Q := by
  unfold bX12_readNumber_0 at hq
  refine x_aload_n 0 dX12_readNumber_0 rfl ?_
  refine x_iload_n 1 dX12_readNumber_1 rfl ?_
  obtain ⟨g1, hq⟩ := hq
  obtain ⟨g2, g3, hq⟩ := hq
  refine x_callV (Yc := YX12_signHere) (as := [.int x1]) (st := []) q4733 mvX12_signHere g1 rfl dX12_readNumber_2 (xle (xal1 (rv_cat _) (xal1 rfl xal0)) (by decide)) (xfr g2) (xlo xsw0 (by decide) g3) (xKi hq (fun x5 h4 hq e6 => ?_) (fun _ _ q _ => q))
  replace hq := hq e6
  refine x_bipush (v := 32) dX12_readNumber_5 (by decide) ?_
  refine x_icmp_eq (tgt := 20) dX12_readNumber_7 (by decide) (fun c7 => ?_) (fun c7 => ?_)
  · replace hq := hq.1 c7
    exact uX12_readNumber_20 hq
  · replace hq := hq.2 c7
    refine x_aload_n 0 dX12_readNumber_10 rfl ?_
    refine x_iload_n 1 dX12_readNumber_11 rfl ?_
    have t8 : tg h4 x0 = 13 := e6.tg g1 (by decide)
    obtain ⟨g9, g10, hq⟩ := hq
    refine x_callV (Yc := YX12_signHere) (as := [.int x1]) (st := []) q4733 mvX12_signHere t8 rfl dX12_readNumber_12 (xle (xal1 (rv_cat _) (xal1 rfl xal0)) (by decide)) (xfr g9) (xlo xsw0 (by decide) g10) (xKi hq (fun x12 h11 hq e13 => ?_) (fun _ _ q _ => q))
    replace hq := hq e13
    refine x_bipush (v := 10) dX12_readNumber_15 (by decide) ?_
    refine x_icmp_ne (tgt := 28) dX12_readNumber_17 (by decide) (fun c14 => ?_) (fun c14 => ?_)
    · replace hq := hq.1 c14
      refine x_aload_n 0 dX12_readNumber_28 rfl ?_
      refine x_iload_n 1 dX12_readNumber_29 rfl ?_
      have t15 : tg h11 x0 = 13 := e13.tg t8 (by decide)
      obtain ⟨g16, g17, hq⟩ := hq
      refine x_callV (Yc := YX12_signHere) (as := [.int x1]) (st := []) q4733 mvX12_signHere t15 rfl dX12_readNumber_30 (xle (xal1 (rv_cat _) (xal1 rfl xal0)) (by decide)) (xfr g16) (xlo xsw0 (by decide) g17) (xKi hq (fun x19 h18 hq e20 => ?_) (fun _ _ q _ => q))
      replace hq := hq e20
      refine x_bipush (v := 45) dX12_readNumber_33 (by decide) ?_
      refine x_icmp_ne (tgt := 42) dX12_readNumber_35 (by decide) (fun c21 => ?_) (fun c21 => ?_)
      · replace hq := hq.1 c21
        refine x_iconst (v := 0) dX12_readNumber_42 (by decide) ?_
        exact uX12_readNumber_43 hq
      · replace hq := hq.2 c21
        refine x_iconst (v := 1) dX12_readNumber_38 (by decide) ?_
        refine x_goto (tgt := 43) dX12_readNumber_39 (by decide) ?_
        exact uX12_readNumber_43 hq
    · replace hq := hq.2 c14
      exact uX12_readNumber_20 hq
def bX12_readNumber (G : xG) (fr lo : Nat) (x0 : Nat) (x1 : Int32) (x2 : Int32) (x3 : Nat) (x4 : Int32) (x5 : Int32) (h : xH) (Q : Outcome → xH → Prop) : Prop := bX12_readNumber_0 G fr lo x0 x1 x2 x3 x4 x5 h Q
theorem uX12_readNumber {G : xG} {fr lo : Nat} {x0 : Nat} {x1 : Int32} {x2 : Int32} {x3 : Nat} {x4 : Int32} {x5 : Int32} {h : xH} {Q : Outcome → xH → Prop} (hq : bX12_readNumber G fr lo x0 x1 x2 x3 x4 x5 h Q) : xP G YX12_readNumber fr lo 0 [(0, rv x0), (1, .int x1), (2, .int x2), (3, rv x3), (4, .int x4), (5, .int x5)] [] h Q :=
  xP.pick (lv' := [(0, rv x0), (1, .int x1), (2, .int x2), (3, rv x3), (4, .int x4), (5, .int x5)]) [0, 1, 2, 3, 4, 5] rfl (uX12_readNumber_0 hq)
theorem rX12_readNumber {G : xG} {fr lo : Nat} {x0 : Nat} {x1 : Int32} {x2 : Int32} {x3 : Nat} {x4 : Int32} {x5 : Int32} {h : xH} {Q : Outcome → xH → Prop} (hq : bX12_readNumber G fr lo x0 x1 x2 x3 x4 x5 h Q) : xR G YX12_readNumber fr lo [rv x0, .int x1, .int x2, rv x3, .int x4, .int x5] h Q := by
  show xP _ _ _ _ _ (lv_args 0 _) _ _ _
  rw [show lv_args 0 [rv x0, .int x1, .int x2, rv x3, .int x4, .int x5] = [(0, rv x0), (1, .int x1), (2, .int x2), (3, rv x3), (4, .int x4), (5, .int x5)] from (xla1 (rv_cat _) (xla1 rfl (xla1 rfl (xla1 (rv_cat _) (xla1 rfl (xla1 rfl xla0))))))]
  exact uX12_readNumber hq
set_option maxRecDepth 100000 in
theorem dX12_signHere_0 : decode cX12_signHere 0 = .ok (.aload_n 0, 1) := by decide +kernel
set_option maxRecDepth 100000 in
theorem dX12_signHere_1 : decode cX12_signHere 1 = .ok (.getfield 213, 3) := by decide +kernel
set_option maxRecDepth 100000 in
theorem dX12_signHere_4 : decode cX12_signHere 4 = .ok (.iload_n 1, 1) := by decide +kernel
set_option maxRecDepth 100000 in
theorem dX12_signHere_5 : decode cX12_signHere 5 = .ok (.iaload, 1) := by decide +kernel
set_option maxRecDepth 100000 in
theorem dX12_signHere_6 : decode cX12_signHere 6 = .ok (.iconst (-1), 1) := by decide +kernel
set_option maxRecDepth 100000 in
theorem dX12_signHere_7 : decode cX12_signHere 7 = .ok (.if_icmp .ne 7, 3) := by decide +kernel
set_option maxRecDepth 100000 in
theorem dX12_signHere_10 : decode cX12_signHere 10 = .ok (.iconst (-1), 1) := by decide +kernel
set_option maxRecDepth 100000 in
theorem dX12_signHere_11 : decode cX12_signHere 11 = .ok (.goto 15, 3) := by decide +kernel
set_option maxRecDepth 100000 in
theorem dX12_signHere_14 : decode cX12_signHere 14 = .ok (.aload_n 0, 1) := by decide +kernel
set_option maxRecDepth 100000 in
theorem dX12_signHere_15 : decode cX12_signHere 15 = .ok (.getfield 229, 3) := by decide +kernel
set_option maxRecDepth 100000 in
theorem dX12_signHere_18 : decode cX12_signHere 18 = .ok (.aload_n 0, 1) := by decide +kernel
set_option maxRecDepth 100000 in
theorem dX12_signHere_19 : decode cX12_signHere 19 = .ok (.getfield 213, 3) := by decide +kernel
set_option maxRecDepth 100000 in
theorem dX12_signHere_22 : decode cX12_signHere 22 = .ok (.iload_n 1, 1) := by decide +kernel
set_option maxRecDepth 100000 in
theorem dX12_signHere_23 : decode cX12_signHere 23 = .ok (.iaload, 1) := by decide +kernel
set_option maxRecDepth 100000 in
theorem dX12_signHere_24 : decode cX12_signHere 24 = .ok (.laload, 1) := by decide +kernel
set_option maxRecDepth 100000 in
theorem dX12_signHere_25 : decode cX12_signHere 25 = .ok (.l2i, 1) := by decide +kernel
set_option maxRecDepth 100000 in
theorem dX12_signHere_26 : decode cX12_signHere 26 = .ok (.ireturn, 1) := by decide +kernel
set_option maxRecDepth 100000 in
def bX12_signHere_26 (G : xG) (fr lo : Nat) (s0 : Int32) (h : xH) (Q : Outcome → xH → Prop) : Prop := Q (.returned (some (.int s0))) h
set_option maxRecDepth 100000 in
theorem uX12_signHere_26 {G : xG} {fr lo : Nat} {s0 : Int32} {h : xH} {Q : Outcome → xH → Prop} (hq : bX12_signHere_26 G fr lo s0 h Q) : xP G YX12_signHere fr lo 26 [] [.int s0] h Q := by
  unfold bX12_signHere_26 at hq
  exact x_iret rfl rfl dX12_signHere_26 hq
set_option maxRecDepth 100000 in
def bX12_signHere (G : xG) (fr lo : Nat) (x0 : Nat) (x1 : Int32) (h : xH) (Q : Outcome → xH → Prop) : Prop := tg h x0 = 13 ∧ tg h (fR h x0 3185) = 100 ∧ vp_in x1 (ln h (fR h x0 3185)) ∧ ((¬ (aI h (fR h x0 3185) (Int32.toNatClampNeg x1)) = (-1) → vp_in x1 (ln h (fR h x0 3185)) ∧ tg h (fR h x0 3192) = 101 ∧ vp_in (aI h (fR h x0 3185) (Int32.toNatClampNeg x1)) (ln h (fR h x0 3192)) ∧ bX12_signHere_26 G fr lo (Int64.toInt32 (aJ h (fR h x0 3192) (Int32.toNatClampNeg (aI h (fR h x0 3185) (Int32.toNatClampNeg x1))))) h Q) ∧ ((aI h (fR h x0 3185) (Int32.toNatClampNeg x1)) = (-1) → bX12_signHere_26 G fr lo (-1) h Q))
set_option maxRecDepth 100000 in
theorem uX12_signHere {G : xG} {fr lo : Nat} {x0 : Nat} {x1 : Int32} {h : xH} {Q : Outcome → xH → Prop} (hq : bX12_signHere G fr lo x0 x1 h Q) : xP G YX12_signHere fr lo 0 [(0, rv x0), (1, .int x1)] [] h Q := by
  unfold bX12_signHere at hq
  refine x_aload_n 0 dX12_signHere_0 rfl ?_
  obtain ⟨g1, hq⟩ := hq
  refine x_get (v := rv (fR h x0 3185)) fdX12_213 dX12_signHere_1 g1 rfl ?_
  refine x_iload_n 1 dX12_signHere_4 rfl ?_
  obtain ⟨g2, hq⟩ := hq
  obtain ⟨i3, hq⟩ := hq
  refine x_iald 0 (Or.inl rfl) g2 i3 dX12_signHere_5 ?_
  refine x_iconst (v := (-1)) dX12_signHere_6 (by decide) ?_
  refine x_icmp_ne (tgt := 14) dX12_signHere_7 (by decide) (fun c4 => ?_) (fun c4 => ?_)
  · replace hq := hq.1 c4
    refine x_aload_n 0 dX12_signHere_14 rfl ?_
    refine x_get (v := rv (fR h x0 3192)) fdX12_229 dX12_signHere_15 g1 rfl ?_
    refine x_aload_n 0 dX12_signHere_18 rfl ?_
    refine x_get (v := rv (fR h x0 3185)) fdX12_213 dX12_signHere_19 g1 rfl ?_
    refine x_iload_n 1 dX12_signHere_22 rfl ?_
    obtain ⟨i5, hq⟩ := hq
    refine x_iald 0 (Or.inl rfl) g2 i5 dX12_signHere_23 ?_
    obtain ⟨g6, hq⟩ := hq
    obtain ⟨i7, hq⟩ := hq
    refine x_lald g6 i7 dX12_signHere_24 ?_
    refine x_l2i dX12_signHere_25 ?_
    refine xP.pick (lv' := []) [] rfl ?_
    exact uX12_signHere_26 hq
  · replace hq := hq.2 c4
    refine x_iconst (v := (-1)) dX12_signHere_10 (by decide) ?_
    refine x_goto (tgt := 26) dX12_signHere_11 (by decide) ?_
    refine xP.pick (lv' := []) [] rfl ?_
    exact uX12_signHere_26 hq
theorem rX12_signHere {G : xG} {fr lo : Nat} {x0 : Nat} {x1 : Int32} {h : xH} {Q : Outcome → xH → Prop} (hq : bX12_signHere G fr lo x0 x1 h Q) : xR G YX12_signHere fr lo [rv x0, .int x1] h Q := by
  show xP _ _ _ _ _ (lv_args 0 _) _ _ _
  rw [show lv_args 0 [rv x0, .int x1] = [(0, rv x0), (1, .int x1)] from (xla1 (rv_cat _) (xla1 rfl xla0))]
  exact uX12_signHere hq
set_option maxRecDepth 100000 in
theorem dX12_goOn_0 : decode cX12_goOn 0 = .ok (.aload_n 0, 1) := by decide +kernel
set_option maxRecDepth 100000 in
theorem dX12_goOn_1 : decode cX12_goOn 1 = .ok (.getfield 225, 3) := by decide +kernel
set_option maxRecDepth 100000 in
theorem dX12_goOn_4 : decode cX12_goOn 4 = .ok (.iload_n 1, 1) := by decide +kernel
set_option maxRecDepth 100000 in
theorem dX12_goOn_5 : decode cX12_goOn 5 = .ok (.aaload, 1) := by decide +kernel
set_option maxRecDepth 100000 in
theorem dX12_goOn_6 : decode cX12_goOn 6 = .ok (.invokestatic 1194, 3) := by decide +kernel
set_option maxRecDepth 100000 in
theorem dX12_goOn_9 : decode cX12_goOn 9 = .ok (.istore_n 2, 1) := by decide +kernel
set_option maxRecDepth 100000 in
theorem dX12_goOn_10 : decode cX12_goOn 10 = .ok (.iconst 0, 1) := by decide +kernel
set_option maxRecDepth 100000 in
theorem dX12_goOn_11 : decode cX12_goOn 11 = .ok (.istore_n 3, 1) := by decide +kernel
set_option maxRecDepth 100000 in
theorem dX12_goOn_12 : decode cX12_goOn 12 = .ok (.iload_n 3, 1) := by decide +kernel
set_option maxRecDepth 100000 in
theorem dX12_goOn_13 : decode cX12_goOn 13 = .ok (.iload_n 2, 1) := by decide +kernel
set_option maxRecDepth 100000 in
theorem dX12_goOn_14 : decode cX12_goOn 14 = .ok (.if_icmp .ge 26, 3) := by decide +kernel
set_option maxRecDepth 100000 in
theorem dX12_goOn_17 : decode cX12_goOn 17 = .ok (.aload_n 0, 1) := by decide +kernel
set_option maxRecDepth 100000 in
theorem dX12_goOn_18 : decode cX12_goOn 18 = .ok (.getfield 213, 3) := by decide +kernel
set_option maxRecDepth 100000 in
theorem dX12_goOn_21 : decode cX12_goOn 21 = .ok (.iload_n 1, 1) := by decide +kernel
set_option maxRecDepth 100000 in
theorem dX12_goOn_22 : decode cX12_goOn 22 = .ok (.aload_n 0, 1) := by decide +kernel
set_option maxRecDepth 100000 in
theorem dX12_goOn_23 : decode cX12_goOn 23 = .ok (.getfield 241, 3) := by decide +kernel
set_option maxRecDepth 100000 in
theorem dX12_goOn_26 : decode cX12_goOn 26 = .ok (.aload_n 0, 1) := by decide +kernel
set_option maxRecDepth 100000 in
theorem dX12_goOn_27 : decode cX12_goOn 27 = .ok (.getfield 213, 3) := by decide +kernel
set_option maxRecDepth 100000 in
theorem dX12_goOn_30 : decode cX12_goOn 30 = .ok (.iload_n 1, 1) := by decide +kernel
set_option maxRecDepth 100000 in
theorem dX12_goOn_31 : decode cX12_goOn 31 = .ok (.iaload, 1) := by decide +kernel
set_option maxRecDepth 100000 in
theorem dX12_goOn_32 : decode cX12_goOn 32 = .ok (.iaload, 1) := by decide +kernel
set_option maxRecDepth 100000 in
theorem dX12_goOn_33 : decode cX12_goOn 33 = .ok (.iastore, 1) := by decide +kernel
set_option maxRecDepth 100000 in
theorem dX12_goOn_34 : decode cX12_goOn 34 = .ok (.iinc 3 1, 3) := by decide +kernel
set_option maxRecDepth 100000 in
theorem dX12_goOn_37 : decode cX12_goOn 37 = .ok (.goto (-25), 3) := by decide +kernel
set_option maxRecDepth 100000 in
theorem dX12_goOn_40 : decode cX12_goOn 40 = .ok (.return_, 1) := by decide +kernel
def lX12_goOn_12 (G : xG) (fr lo : Nat) (x0 : Nat) (x1 : Int32) (x2 : Int32) (x3 : Int32) (h : xH) (Q : Outcome → xH → Prop) : Prop := xP G YX12_goOn fr lo 12 [(0, rv x0), (1, .int x1), (2, .int x2), (3, .int x3)] [] h Q
set_option maxRecDepth 100000 in
def bX12_goOn_12 (G : xG) (fr lo : Nat) (x0 : Nat) (x1 : Int32) (x2 : Int32) (x3 : Int32) (h : xH) (Q : Outcome → xH → Prop) : Prop := ((x2 ≤ x3 → Q (.returned none) h) ∧ (¬ x2 ≤ x3 → tg h x0 = 13 ∧ tg h (fR h x0 3185) = 100 ∧ vp_in x1 (ln h (fR h x0 3185)) ∧ tg h (fR h x0 3196) = 100 ∧ vp_in (aI h (fR h x0 3185) (Int32.toNatClampNeg x1)) (ln h (fR h x0 3196)) ∧ vp_in x1 (ln h (fR h x0 3185)) ∧ (∀ h8 : xH, h8 = tI h (fR h x0 3185) (Int32.toNatClampNeg x1) (aI h (fR h x0 3196) (Int32.toNatClampNeg (aI h (fR h x0 3185) (Int32.toNatClampNeg x1)))) → lX12_goOn_12 G fr lo x0 x1 x2 (x3 + 1) h8 Q)))
set_option maxRecDepth 100000 in
theorem uX12_goOn_12 {G : xG} {fr lo : Nat} {x0 : Nat} {x1 : Int32} {x2 : Int32} {x3 : Int32} {h : xH} {Q : Outcome → xH → Prop} (hq : bX12_goOn_12 G fr lo x0 x1 x2 x3 h Q) : xP G YX12_goOn fr lo 12 [(0, rv x0), (1, .int x1), (2, .int x2), (3, .int x3)] [] h Q := by
  unfold bX12_goOn_12 at hq
  refine x_iload_n 3 dX12_goOn_12 rfl ?_
  refine x_iload_n 2 dX12_goOn_13 rfl ?_
  refine x_icmp_ge (tgt := 40) dX12_goOn_14 (by decide) (fun c1 => ?_) (fun c1 => ?_)
  · replace hq := hq.1 c1
    exact x_vret rfl dX12_goOn_40 hq
  · replace hq := hq.2 c1
    refine x_aload_n 0 dX12_goOn_17 rfl ?_
    obtain ⟨g2, hq⟩ := hq
    refine x_get (v := rv (fR h x0 3185)) fdX12_213 dX12_goOn_18 g2 rfl ?_
    refine x_iload_n 1 dX12_goOn_21 rfl ?_
    refine x_aload_n 0 dX12_goOn_22 rfl ?_
    refine x_get (v := rv (fR h x0 3196)) fdX12_241 dX12_goOn_23 g2 rfl ?_
    refine x_aload_n 0 dX12_goOn_26 rfl ?_
    refine x_get (v := rv (fR h x0 3185)) fdX12_213 dX12_goOn_27 g2 rfl ?_
    refine x_iload_n 1 dX12_goOn_30 rfl ?_
    obtain ⟨g3, hq⟩ := hq
    obtain ⟨i4, hq⟩ := hq
    refine x_iald 0 (Or.inl rfl) g3 i4 dX12_goOn_31 ?_
    obtain ⟨g5, hq⟩ := hq
    obtain ⟨i6, hq⟩ := hq
    refine x_iald 0 (Or.inl rfl) g5 i6 dX12_goOn_32 ?_
    obtain ⟨i7, hq⟩ := hq
    obtain ⟨h8, e9⟩ : ∃ y, y = tI h (fR h x0 3185) (Int32.toNatClampNeg x1) (aI h (fR h x0 3196) (Int32.toNatClampNeg (aI h (fR h x0 3185) (Int32.toNatClampNeg x1)))) := ⟨_, rfl⟩
    replace hq := hq h8 e9
    refine x_iast' g3 i7 dX12_goOn_33 e9 ?_
    refine x_iinc (lv' := [(3, .int (x3 + 1)), (0, rv x0), (1, .int x1), (2, .int x2)]) 3 dX12_goOn_34 rfl (by decide) rfl ?_
    refine x_goto (tgt := 12) dX12_goOn_37 (by decide) ?_
    refine xP.pick (lv' := [(0, rv x0), (1, .int x1), (2, .int x2), (3, .int (x3 + 1))]) [1, 2, 3, 0] rfl ?_
    exact hq
set_option maxRecDepth 100000 in
def bX12_goOn (G : xG) (fr lo : Nat) (x0 : Nat) (x1 : Int32) (h : xH) (Q : Outcome → xH → Prop) : Prop := tg h x0 = 13 ∧ tg h (fR h x0 3189) = 108 ∧ vp_in x1 (ln h (fR h x0 3189)) ∧ 1 ≤ fr ∧ 12 ≤ lo ∧ xRi G YX12_weight (fr - 1) (lo - 12) [rv (aR h (fR h x0 3189) (Int32.toNatClampNeg x1))] h (fun x7 h6 => xext h h6 → lX12_goOn_12 G fr lo x0 x1 x7 0 h6 Q) (fun r h2 => Q (.threw r) h2)
set_option maxRecDepth 100000 in
theorem uX12_goOn {G : xG} {fr lo : Nat} {x0 : Nat} {x1 : Int32} {h : xH} {Q : Outcome → xH → Prop} (hq : bX12_goOn G fr lo x0 x1 h Q) : xP G YX12_goOn fr lo 0 [(0, rv x0), (1, .int x1)] [] h Q := by
  unfold bX12_goOn at hq
  refine x_aload_n 0 dX12_goOn_0 rfl ?_
  obtain ⟨g1, hq⟩ := hq
  refine x_get (v := rv (fR h x0 3189)) fdX12_225 dX12_goOn_1 g1 rfl ?_
  refine x_iload_n 1 dX12_goOn_4 rfl ?_
  obtain ⟨g2, hq⟩ := hq
  obtain ⟨i3, hq⟩ := hq
  refine x_aald 8 rfl g2 (by decide) i3 dX12_goOn_5 ?_
  obtain ⟨g4, g5, hq⟩ := hq
  refine x_callS (Yc := YX12_weight) (as := [rv (aR h (fR h x0 3189) (Int32.toNatClampNeg x1))]) (st := []) q4741 msX12_weight rfl dX12_goOn_6 (xle (xal1 (rv_cat _) xal0) (by decide)) (xfr g4) (xlo xsw0 (by decide) g5) (xKi hq (fun x7 h6 hq e8 => ?_) (fun _ _ q _ => q))
  replace hq := hq e8
  refine x_istore_n (lv' := [(2, .int x7), (0, rv x0), (1, .int x1)]) dX12_goOn_9 (by decide) rfl ?_
  refine x_iconst (v := 0) dX12_goOn_10 (by decide) ?_
  refine x_istore_n (lv' := [(3, .int 0), (2, .int x7), (0, rv x0), (1, .int x1)]) dX12_goOn_11 (by decide) rfl ?_
  refine xP.pick (lv' := [(0, rv x0), (1, .int x1), (2, .int x7), (3, .int 0)]) [2, 3, 1, 0] rfl ?_
  exact hq
theorem rX12_goOn {G : xG} {fr lo : Nat} {x0 : Nat} {x1 : Int32} {h : xH} {Q : Outcome → xH → Prop} (hq : bX12_goOn G fr lo x0 x1 h Q) : xR G YX12_goOn fr lo [rv x0, .int x1] h Q := by
  show xP _ _ _ _ _ (lv_args 0 _) _ _ _
  rw [show lv_args 0 [rv x0, .int x1] = [(0, rv x0), (1, .int x1)] from (xla1 (rv_cat _) (xla1 rfl xla0))]
  exact uX12_goOn hq
set_option maxRecDepth 100000 in
theorem dX12_weight_0 : decode cX12_weight 0 = .ok (.lconst 1, 1) := by decide +kernel
set_option maxRecDepth 100000 in
theorem dX12_weight_1 : decode cX12_weight 1 = .ok (.aload_n 0, 1) := by decide +kernel
set_option maxRecDepth 100000 in
theorem dX12_weight_2 : decode cX12_weight 2 = .ok (.getfield 598, 3) := by decide +kernel
set_option maxRecDepth 100000 in
theorem dX12_weight_5 : decode cX12_weight 5 = .ok (.getfield 603, 3) := by decide +kernel
set_option maxRecDepth 100000 in
theorem dX12_weight_8 : decode cX12_weight 8 = .ok (.invokestatic 1181, 3) := by decide +kernel
set_option maxRecDepth 100000 in
theorem dX12_weight_11 : decode cX12_weight 11 = .ok (.l2i, 1) := by decide +kernel
set_option maxRecDepth 100000 in
theorem dX12_weight_12 : decode cX12_weight 12 = .ok (.ireturn, 1) := by decide +kernel
set_option maxRecDepth 100000 in
def bX12_weight (G : xG) (fr lo : Nat) (x0 : Nat) (h : xH) (Q : Outcome → xH → Prop) : Prop := tg h x0 = 14 ∧ tg h (fR h x0 3333) = 14 ∧ 1 ≤ fr ∧ 15 ≤ lo ∧ xRj G YJ10_max_2 (fr - 1) (lo - 15) [.long 1, .long (fJ h (fR h x0 3333) 3334)] h (fun x6 h5 => xext h h5 → Q (.returned (some (.int (Int64.toInt32 x6)))) h5) (fun r h2 => Q (.threw r) h2)
set_option maxRecDepth 100000 in
theorem uX12_weight {G : xG} {fr lo : Nat} {x0 : Nat} {h : xH} {Q : Outcome → xH → Prop} (hq : bX12_weight G fr lo x0 h Q) : xP G YX12_weight fr lo 0 [(0, rv x0)] [] h Q := by
  unfold bX12_weight at hq
  refine x_lconst (v := 1) dX12_weight_0 (by decide) ?_
  refine x_aload_n 0 dX12_weight_1 rfl ?_
  obtain ⟨g1, hq⟩ := hq
  refine x_get (v := rv (fR h x0 3333)) fdX12_598 dX12_weight_2 g1 rfl ?_
  obtain ⟨g2, hq⟩ := hq
  refine x_get (v := .long (fJ h (fR h x0 3333) 3334)) fdX12_603 dX12_weight_5 g2 rfl ?_
  obtain ⟨g3, g4, hq⟩ := hq
  refine x_callS (Yc := YJ10_max_2) (as := [.long 1, .long (fJ h (fR h x0 3333) 3334)]) (st := []) q4744 msJ10_max_2 rfl dX12_weight_8 (xle (xal2 rfl (xal2 rfl xal0)) (by decide)) (xfr g3) (xlo xsw0 (by decide) g4) (xKj hq (fun x6 h5 hq e7 => ?_) (fun _ _ q _ => q))
  replace hq := hq e7
  refine x_l2i dX12_weight_11 ?_
  exact x_iret rfl rfl dX12_weight_12 hq
theorem rX12_weight {G : xG} {fr lo : Nat} {x0 : Nat} {h : xH} {Q : Outcome → xH → Prop} (hq : bX12_weight G fr lo x0 h Q) : xR G YX12_weight fr lo [rv x0] h Q := by
  show xP _ _ _ _ _ (lv_args 0 _) _ _ _
  rw [show lv_args 0 [rv x0] = [(0, rv x0)] from (xla1 (rv_cat _) xla0)]
  exact uX12_weight hq
set_option maxRecDepth 100000 in
theorem dX12_signBehind_0 : decode cX12_signBehind 0 = .ok (.iload_n 1, 1) := by decide +kernel
set_option maxRecDepth 100000 in
theorem dX12_signBehind_1 : decode cX12_signBehind 1 = .ok (.iconst (-1), 1) := by decide +kernel
set_option maxRecDepth 100000 in
theorem dX12_signBehind_2 : decode cX12_signBehind 2 = .ok (.if_icmp .eq 13, 3) := by decide +kernel
set_option maxRecDepth 100000 in
theorem dX12_signBehind_5 : decode cX12_signBehind 5 = .ok (.aload_n 0, 1) := by decide +kernel
set_option maxRecDepth 100000 in
theorem dX12_signBehind_6 : decode cX12_signBehind 6 = .ok (.getfield 241, 3) := by decide +kernel
set_option maxRecDepth 100000 in
theorem dX12_signBehind_9 : decode cX12_signBehind 9 = .ok (.iload_n 1, 1) := by decide +kernel
set_option maxRecDepth 100000 in
theorem dX12_signBehind_10 : decode cX12_signBehind 10 = .ok (.iaload, 1) := by decide +kernel
set_option maxRecDepth 100000 in
theorem dX12_signBehind_11 : decode cX12_signBehind 11 = .ok (.iconst (-1), 1) := by decide +kernel
set_option maxRecDepth 100000 in
theorem dX12_signBehind_12 : decode cX12_signBehind 12 = .ok (.if_icmp .ne 7, 3) := by decide +kernel
set_option maxRecDepth 100000 in
theorem dX12_signBehind_15 : decode cX12_signBehind 15 = .ok (.iconst (-1), 1) := by decide +kernel
set_option maxRecDepth 100000 in
theorem dX12_signBehind_16 : decode cX12_signBehind 16 = .ok (.goto 15, 3) := by decide +kernel
set_option maxRecDepth 100000 in
theorem dX12_signBehind_19 : decode cX12_signBehind 19 = .ok (.aload_n 0, 1) := by decide +kernel
set_option maxRecDepth 100000 in
theorem dX12_signBehind_20 : decode cX12_signBehind 20 = .ok (.getfield 229, 3) := by decide +kernel
set_option maxRecDepth 100000 in
theorem dX12_signBehind_23 : decode cX12_signBehind 23 = .ok (.aload_n 0, 1) := by decide +kernel
set_option maxRecDepth 100000 in
theorem dX12_signBehind_24 : decode cX12_signBehind 24 = .ok (.getfield 241, 3) := by decide +kernel
set_option maxRecDepth 100000 in
theorem dX12_signBehind_27 : decode cX12_signBehind 27 = .ok (.iload_n 1, 1) := by decide +kernel
set_option maxRecDepth 100000 in
theorem dX12_signBehind_28 : decode cX12_signBehind 28 = .ok (.iaload, 1) := by decide +kernel
set_option maxRecDepth 100000 in
theorem dX12_signBehind_29 : decode cX12_signBehind 29 = .ok (.laload, 1) := by decide +kernel
set_option maxRecDepth 100000 in
theorem dX12_signBehind_30 : decode cX12_signBehind 30 = .ok (.l2i, 1) := by decide +kernel
set_option maxRecDepth 100000 in
theorem dX12_signBehind_31 : decode cX12_signBehind 31 = .ok (.ireturn, 1) := by decide +kernel
set_option maxRecDepth 100000 in
def bX12_signBehind_31 (G : xG) (fr lo : Nat) (s0 : Int32) (h : xH) (Q : Outcome → xH → Prop) : Prop := Q (.returned (some (.int s0))) h
set_option maxRecDepth 100000 in
theorem uX12_signBehind_31 {G : xG} {fr lo : Nat} {s0 : Int32} {h : xH} {Q : Outcome → xH → Prop} (hq : bX12_signBehind_31 G fr lo s0 h Q) : xP G YX12_signBehind fr lo 31 [] [.int s0] h Q := by
  unfold bX12_signBehind_31 at hq
  exact x_iret rfl rfl dX12_signBehind_31 hq
set_option maxRecDepth 100000 in
def bX12_signBehind_15 (G : xG) (fr lo : Nat) (h : xH) (Q : Outcome → xH → Prop) : Prop := bX12_signBehind_31 G fr lo (-1) h Q
set_option maxRecDepth 100000 in
theorem uX12_signBehind_15 {G : xG} {fr lo : Nat} {h : xH} {Q : Outcome → xH → Prop} (hq : bX12_signBehind_15 G fr lo h Q) : xP G YX12_signBehind fr lo 15 [] [] h Q := by
  unfold bX12_signBehind_15 at hq
  refine x_iconst (v := (-1)) dX12_signBehind_15 (by decide) ?_
  refine x_goto (tgt := 31) dX12_signBehind_16 (by decide) ?_
  exact uX12_signBehind_31 hq
set_option maxRecDepth 100000 in
def bX12_signBehind (G : xG) (fr lo : Nat) (x0 : Nat) (x1 : Int32) (h : xH) (Q : Outcome → xH → Prop) : Prop := ((x1 = (-1) → bX12_signBehind_15 G fr lo h Q) ∧ (¬ x1 = (-1) → tg h x0 = 13 ∧ tg h (fR h x0 3196) = 100 ∧ vp_in x1 (ln h (fR h x0 3196)) ∧ ((¬ (aI h (fR h x0 3196) (Int32.toNatClampNeg x1)) = (-1) → vp_in x1 (ln h (fR h x0 3196)) ∧ tg h (fR h x0 3192) = 101 ∧ vp_in (aI h (fR h x0 3196) (Int32.toNatClampNeg x1)) (ln h (fR h x0 3192)) ∧ bX12_signBehind_31 G fr lo (Int64.toInt32 (aJ h (fR h x0 3192) (Int32.toNatClampNeg (aI h (fR h x0 3196) (Int32.toNatClampNeg x1))))) h Q) ∧ ((aI h (fR h x0 3196) (Int32.toNatClampNeg x1)) = (-1) → bX12_signBehind_15 G fr lo h Q))))
set_option maxRecDepth 100000 in
theorem uX12_signBehind {G : xG} {fr lo : Nat} {x0 : Nat} {x1 : Int32} {h : xH} {Q : Outcome → xH → Prop} (hq : bX12_signBehind G fr lo x0 x1 h Q) : xP G YX12_signBehind fr lo 0 [(0, rv x0), (1, .int x1)] [] h Q := by
  unfold bX12_signBehind at hq
  refine x_iload_n 1 dX12_signBehind_0 rfl ?_
  refine x_iconst (v := (-1)) dX12_signBehind_1 (by decide) ?_
  refine x_icmp_eq (tgt := 15) dX12_signBehind_2 (by decide) (fun c1 => ?_) (fun c1 => ?_)
  · replace hq := hq.1 c1
    refine xP.pick (lv' := []) [] rfl ?_
    exact uX12_signBehind_15 hq
  · replace hq := hq.2 c1
    refine x_aload_n 0 dX12_signBehind_5 rfl ?_
    obtain ⟨g2, hq⟩ := hq
    refine x_get (v := rv (fR h x0 3196)) fdX12_241 dX12_signBehind_6 g2 rfl ?_
    refine x_iload_n 1 dX12_signBehind_9 rfl ?_
    obtain ⟨g3, hq⟩ := hq
    obtain ⟨i4, hq⟩ := hq
    refine x_iald 0 (Or.inl rfl) g3 i4 dX12_signBehind_10 ?_
    refine x_iconst (v := (-1)) dX12_signBehind_11 (by decide) ?_
    refine x_icmp_ne (tgt := 19) dX12_signBehind_12 (by decide) (fun c5 => ?_) (fun c5 => ?_)
    · replace hq := hq.1 c5
      refine x_aload_n 0 dX12_signBehind_19 rfl ?_
      refine x_get (v := rv (fR h x0 3192)) fdX12_229 dX12_signBehind_20 g2 rfl ?_
      refine x_aload_n 0 dX12_signBehind_23 rfl ?_
      refine x_get (v := rv (fR h x0 3196)) fdX12_241 dX12_signBehind_24 g2 rfl ?_
      refine x_iload_n 1 dX12_signBehind_27 rfl ?_
      obtain ⟨i6, hq⟩ := hq
      refine x_iald 0 (Or.inl rfl) g3 i6 dX12_signBehind_28 ?_
      obtain ⟨g7, hq⟩ := hq
      obtain ⟨i8, hq⟩ := hq
      refine x_lald g7 i8 dX12_signBehind_29 ?_
      refine x_l2i dX12_signBehind_30 ?_
      refine xP.pick (lv' := []) [] rfl ?_
      exact uX12_signBehind_31 hq
    · replace hq := hq.2 c5
      refine xP.pick (lv' := []) [] rfl ?_
      exact uX12_signBehind_15 hq
theorem rX12_signBehind {G : xG} {fr lo : Nat} {x0 : Nat} {x1 : Int32} {h : xH} {Q : Outcome → xH → Prop} (hq : bX12_signBehind G fr lo x0 x1 h Q) : xR G YX12_signBehind fr lo [rv x0, .int x1] h Q := by
  show xP _ _ _ _ _ (lv_args 0 _) _ _ _
  rw [show lv_args 0 [rv x0, .int x1] = [(0, rv x0), (1, .int x1)] from (xla1 (rv_cat _) (xla1 rfl xla0))]
  exact uX12_signBehind hq
set_option maxRecDepth 100000 in
theorem dX12_readPart_0 : decode cX12_readPart 0 = .ok (.aload_n 0, 1) := by decide +kernel
set_option maxRecDepth 100000 in
theorem dX12_readPart_1 : decode cX12_readPart 1 = .ok (.getfield 225, 3) := by decide +kernel
set_option maxRecDepth 100000 in
theorem dX12_readPart_4 : decode cX12_readPart 4 = .ok (.iload_n 1, 1) := by decide +kernel
set_option maxRecDepth 100000 in
theorem dX12_readPart_5 : decode cX12_readPart 5 = .ok (.aaload, 1) := by decide +kernel
set_option maxRecDepth 100000 in
theorem dX12_readPart_6 : decode cX12_readPart 6 = .ok (.getfield 598, 3) := by decide +kernel
set_option maxRecDepth 100000 in
theorem dX12_readPart_9 : decode cX12_readPart 9 = .ok (.astore 5, 2) := by decide +kernel
set_option maxRecDepth 100000 in
theorem dX12_readPart_11 : decode cX12_readPart 11 = .ok (.aload_n 0, 1) := by decide +kernel
set_option maxRecDepth 100000 in
theorem dX12_readPart_12 : decode cX12_readPart 12 = .ok (.aload_n 0, 1) := by decide +kernel
set_option maxRecDepth 100000 in
theorem dX12_readPart_13 : decode cX12_readPart 13 = .ok (.getfield 219, 3) := by decide +kernel
set_option maxRecDepth 100000 in
theorem dX12_readPart_16 : decode cX12_readPart 16 = .ok (.iload_n 1, 1) := by decide +kernel
set_option maxRecDepth 100000 in
theorem dX12_readPart_17 : decode cX12_readPart 17 = .ok (.iaload, 1) := by decide +kernel
set_option maxRecDepth 100000 in
theorem dX12_readPart_18 : decode cX12_readPart 18 = .ok (.iconst 1, 1) := by decide +kernel
set_option maxRecDepth 100000 in
theorem dX12_readPart_19 : decode cX12_readPart 19 = .ok (.iadd, 1) := by decide +kernel
set_option maxRecDepth 100000 in
theorem dX12_readPart_20 : decode cX12_readPart 20 = .ok (.aload 5, 2) := by decide +kernel
set_option maxRecDepth 100000 in
theorem dX12_readPart_22 : decode cX12_readPart 22 = .ok (.iload 4, 2) := by decide +kernel
set_option maxRecDepth 100000 in
theorem dX12_readPart_24 : decode cX12_readPart 24 = .ok (.invokevirtual 1251, 3) := by decide +kernel
set_option maxRecDepth 100000 in
theorem dX12_readPart_27 : decode cX12_readPart 27 = .ok (.aload_n 0, 1) := by decide +kernel
set_option maxRecDepth 100000 in
theorem dX12_readPart_28 : decode cX12_readPart 28 = .ok (.getfield 1121, 3) := by decide +kernel
set_option maxRecDepth 100000 in
theorem dX12_readPart_31 : decode cX12_readPart 31 = .ok (.ifCond .ne 13, 3) := by decide +kernel
set_option maxRecDepth 100000 in
theorem dX12_readPart_34 : decode cX12_readPart 34 = .ok (.aload_n 0, 1) := by decide +kernel
set_option maxRecDepth 100000 in
theorem dX12_readPart_35 : decode cX12_readPart 35 = .ok (.iload_n 2, 1) := by decide +kernel
set_option maxRecDepth 100000 in
theorem dX12_readPart_36 : decode cX12_readPart 36 = .ok (.aload 5, 2) := by decide +kernel
set_option maxRecDepth 100000 in
theorem dX12_readPart_38 : decode cX12_readPart 38 = .ok (.aload_n 3, 1) := by decide +kernel
set_option maxRecDepth 100000 in
theorem dX12_readPart_39 : decode cX12_readPart 39 = .ok (.iload 4, 2) := by decide +kernel
set_option maxRecDepth 100000 in
theorem dX12_readPart_41 : decode cX12_readPart 41 = .ok (.invokevirtual 1411, 3) := by decide +kernel
set_option maxRecDepth 100000 in
theorem dX12_readPart_44 : decode cX12_readPart 44 = .ok (.aload_n 0, 1) := by decide +kernel
set_option maxRecDepth 100000 in
theorem dX12_readPart_45 : decode cX12_readPart 45 = .ok (.getfield 1121, 3) := by decide +kernel
set_option maxRecDepth 100000 in
theorem dX12_readPart_48 : decode cX12_readPart 48 = .ok (.ifCond .eq 4, 3) := by decide +kernel
set_option maxRecDepth 100000 in
theorem dX12_readPart_51 : decode cX12_readPart 51 = .ok (.return_, 1) := by decide +kernel
set_option maxRecDepth 100000 in
theorem dX12_readPart_52 : decode cX12_readPart 52 = .ok (.aload_n 0, 1) := by decide +kernel
set_option maxRecDepth 100000 in
theorem dX12_readPart_53 : decode cX12_readPart 53 = .ok (.iload_n 1, 1) := by decide +kernel
set_option maxRecDepth 100000 in
theorem dX12_readPart_54 : decode cX12_readPart 54 = .ok (.invokevirtual 1207, 3) := by decide +kernel
set_option maxRecDepth 100000 in
theorem dX12_readPart_57 : decode cX12_readPart 57 = .ok (.aload_n 0, 1) := by decide +kernel
set_option maxRecDepth 100000 in
theorem dX12_readPart_58 : decode cX12_readPart 58 = .ok (.iload_n 1, 1) := by decide +kernel
set_option maxRecDepth 100000 in
theorem dX12_readPart_59 : decode cX12_readPart 59 = .ok (.invokevirtual 1201, 3) := by decide +kernel
set_option maxRecDepth 100000 in
theorem dX12_readPart_62 : decode cX12_readPart 62 = .ok (.return_, 1) := by decide +kernel
set_option maxRecDepth 100000 in
def bX12_readPart_44 (G : xG) (fr lo : Nat) (x0 : Nat) (x1 : Int32) (h : xH) (Q : Outcome → xH → Prop) : Prop := tg h x0 = 13 ∧ (((fI h x0 3170) = 0 → 1 ≤ fr ∧ 15 ≤ lo ∧ xRv G YX12_goOn (fr - 1) (lo - 15) [rv x0, .int x1] h (fun h5 => xext h h5 → 1 ≤ fr ∧ 17 ≤ lo ∧ xRv G YX12_bringBuffer (fr - 1) (lo - 17) [rv x0, .int x1] h5 (fun h11 => xext h5 h11 → Q (.returned none) h11) (fun r h2 => Q (.threw r) h2)) (fun r h2 => Q (.threw r) h2)) ∧ (¬ (fI h x0 3170) = 0 → Q (.returned none) h))
set_option maxRecDepth 100000 in
theorem uX12_readPart_44 {G : xG} {fr lo : Nat} {x0 : Nat} {x1 : Int32} {h : xH} {Q : Outcome → xH → Prop} (hq : bX12_readPart_44 G fr lo x0 x1 h Q) : xP G YX12_readPart fr lo 44 [(0, rv x0), (1, .int x1)] [] h Q := by
  unfold bX12_readPart_44 at hq
  refine x_aload_n 0 dX12_readPart_44 rfl ?_
  obtain ⟨g1, hq⟩ := hq
  refine x_get (v := .int (fI h x0 3170)) fdX12_1121 dX12_readPart_45 g1 rfl ?_
  refine x_if_eq (tgt := 52) dX12_readPart_48 (by decide) (fun c2 => ?_) (fun c2 => ?_)
  · replace hq := hq.1 c2
    refine x_aload_n 0 dX12_readPart_52 rfl ?_
    refine x_iload_n 1 dX12_readPart_53 rfl ?_
    obtain ⟨g3, g4, hq⟩ := hq
    refine x_callV (Yc := YX12_goOn) (as := [.int x1]) (st := []) q4737 mvX12_goOn g1 rfl dX12_readPart_54 (xle (xal1 (rv_cat _) (xal1 rfl xal0)) (by decide)) (xfr g3) (xlo xsw0 (by decide) g4) (xKv hq (fun h5 hq e7 => ?_) (fun _ _ q _ => q))
    replace hq := hq e7
    refine x_aload_n 0 dX12_readPart_57 rfl ?_
    refine x_iload_n 1 dX12_readPart_58 rfl ?_
    have t8 : tg h5 x0 = 13 := e7.tg g1 (by decide)
    obtain ⟨g9, g10, hq⟩ := hq
    refine x_callV (Yc := YX12_bringBuffer) (as := [.int x1]) (st := []) q4526 mvX12_bringBuffer t8 rfl dX12_readPart_59 (xle (xal1 (rv_cat _) (xal1 rfl xal0)) (by decide)) (xfr g9) (xlo xsw0 (by decide) g10) (xKv hq (fun h11 hq e13 => ?_) (fun _ _ q _ => q))
    replace hq := hq e13
    exact x_vret rfl dX12_readPart_62 hq
  · replace hq := hq.2 c2
    exact x_vret rfl dX12_readPart_51 hq
set_option maxRecDepth 100000 in
def bX12_readPart (G : xG) (fr lo : Nat) (x0 : Nat) (x1 : Int32) (x2 : Int32) (x3 : Nat) (x4 : Int32) (h : xH) (Q : Outcome → xH → Prop) : Prop := tg h x0 = 13 ∧ tg h (fR h x0 3189) = 108 ∧ vp_in x1 (ln h (fR h x0 3189)) ∧ tg h (aR h (fR h x0 3189) (Int32.toNatClampNeg x1)) = 14 ∧ tg h (fR h x0 3187) = 100 ∧ vp_in x1 (ln h (fR h x0 3187)) ∧ 1 ≤ fr ∧ 15 ≤ lo ∧ xRv G YX12_load (fr - 1) (lo - 15) [rv x0, .int ((aI h (fR h x0 3187) (Int32.toNatClampNeg x1)) + 1), rv (fR h (aR h (fR h x0 3189) (Int32.toNatClampNeg x1)) 3333), .int x4] h (fun h9 => xext h h9 → ((¬ (fI h9 x0 3170) = 0 → bX12_readPart_44 G fr lo x0 x1 h9 Q) ∧ ((fI h9 x0 3170) = 0 → 1 ≤ fr ∧ 16 ≤ lo ∧ xRv G YX12_store (fr - 1) (lo - 16) [rv x0, .int x2, rv (fR h (aR h (fR h x0 3189) (Int32.toNatClampNeg x1)) 3333), rv x3, .int x4] h9 (fun h16 => xext h9 h16 → bX12_readPart_44 G fr lo x0 x1 h16 Q) (fun r h2 => Q (.threw r) h2)))) (fun r h2 => Q (.threw r) h2)
set_option maxRecDepth 100000 in
theorem uX12_readPart {G : xG} {fr lo : Nat} {x0 : Nat} {x1 : Int32} {x2 : Int32} {x3 : Nat} {x4 : Int32} {h : xH} {Q : Outcome → xH → Prop} (hq : bX12_readPart G fr lo x0 x1 x2 x3 x4 h Q) : xP G YX12_readPart fr lo 0 [(0, rv x0), (1, .int x1), (2, .int x2), (3, rv x3), (4, .int x4)] [] h Q := by
  unfold bX12_readPart at hq
  refine x_aload_n 0 dX12_readPart_0 rfl ?_
  obtain ⟨g1, hq⟩ := hq
  refine x_get (v := rv (fR h x0 3189)) fdX12_225 dX12_readPart_1 g1 rfl ?_
  refine x_iload_n 1 dX12_readPart_4 rfl ?_
  obtain ⟨g2, hq⟩ := hq
  obtain ⟨i3, hq⟩ := hq
  refine x_aald 8 rfl g2 (by decide) i3 dX12_readPart_5 ?_
  obtain ⟨g4, hq⟩ := hq
  refine x_get (v := rv (fR h (aR h (fR h x0 3189) (Int32.toNatClampNeg x1)) 3333)) fdX12_598 dX12_readPart_6 g4 rfl ?_
  refine x_astore (lv' := [(5, rv (fR h (aR h (fR h x0 3189) (Int32.toNatClampNeg x1)) 3333)), (0, rv x0), (1, .int x1), (2, .int x2), (3, rv x3), (4, .int x4)]) dX12_readPart_9 (by decide) rfl ?_
  refine x_aload_n 1 dX12_readPart_11 rfl ?_
  refine x_aload_n 1 dX12_readPart_12 rfl ?_
  refine x_get (v := rv (fR h x0 3187)) fdX12_219 dX12_readPart_13 g1 rfl ?_
  refine x_iload_n 2 dX12_readPart_16 rfl ?_
  obtain ⟨g5, hq⟩ := hq
  obtain ⟨i6, hq⟩ := hq
  refine x_iald 0 (Or.inl rfl) g5 i6 dX12_readPart_17 ?_
  refine x_iconst (v := 1) dX12_readPart_18 (by decide) ?_
  refine x_iadd dX12_readPart_19 ?_
  refine x_aload 0 dX12_readPart_20 rfl ?_
  refine x_iload 5 dX12_readPart_22 rfl ?_
  obtain ⟨g7, g8, hq⟩ := hq
  refine x_callV (Yc := YX12_load) (as := [.int ((aI h (fR h x0 3187) (Int32.toNatClampNeg x1)) + 1), rv (fR h (aR h (fR h x0 3189) (Int32.toNatClampNeg x1)) 3333), .int x4]) (st := []) q4651 mvX12_load g1 rfl dX12_readPart_24 (xle (xal1 (rv_cat _) (xal1 rfl (xal1 (rv_cat _) (xal1 rfl xal0)))) (by decide)) (xfr g7) (xlo xsw0 (by decide) g8) (xKv hq (fun h9 hq e11 => ?_) (fun _ _ q _ => q))
  replace hq := hq e11
  refine x_aload_n 1 dX12_readPart_27 rfl ?_
  have t12 : tg h9 x0 = 13 := e11.tg g1 (by decide)
  refine x_get (v := .int (fI h9 x0 3170)) fdX12_1121 dX12_readPart_28 t12 rfl ?_
  refine x_if_ne (tgt := 44) dX12_readPart_31 (by decide) (fun c13 => ?_) (fun c13 => ?_)
  · replace hq := hq.1 c13
    refine xP.pick (lv' := [(0, rv x0), (1, .int x1)]) [1, 2] rfl ?_
    exact uX12_readPart_44 hq
  · replace hq := hq.2 c13
    refine x_aload_n 1 dX12_readPart_34 rfl ?_
    refine x_iload_n 3 dX12_readPart_35 rfl ?_
    refine x_aload 0 dX12_readPart_36 rfl ?_
    refine x_aload_n 4 dX12_readPart_38 rfl ?_
    refine x_iload 5 dX12_readPart_39 rfl ?_
    obtain ⟨g14, g15, hq⟩ := hq
    refine x_callV (Yc := YX12_store) (as := [.int x2, rv (fR h (aR h (fR h x0 3189) (Int32.toNatClampNeg x1)) 3333), rv x3, .int x4]) (st := []) q4713 mvX12_store t12 rfl dX12_readPart_41 (xle (xal1 (rv_cat _) (xal1 rfl (xal1 (rv_cat _) (xal1 (rv_cat _) (xal1 rfl xal0))))) (by decide)) (xfr g14) (xlo xsw0 (by decide) g15) (xKv hq (fun h16 hq e18 => ?_) (fun _ _ q _ => q))
    replace hq := hq e18
    refine xP.pick (lv' := [(0, rv x0), (1, .int x1)]) [1, 2] rfl ?_
    exact uX12_readPart_44 hq
theorem rX12_readPart {G : xG} {fr lo : Nat} {x0 : Nat} {x1 : Int32} {x2 : Int32} {x3 : Nat} {x4 : Int32} {h : xH} {Q : Outcome → xH → Prop} (hq : bX12_readPart G fr lo x0 x1 x2 x3 x4 h Q) : xR G YX12_readPart fr lo [rv x0, .int x1, .int x2, rv x3, .int x4] h Q := by
  show xP _ _ _ _ _ (lv_args 0 _) _ _ _
  rw [show lv_args 0 [rv x0, .int x1, .int x2, rv x3, .int x4] = [(0, rv x0), (1, .int x1), (2, .int x2), (3, rv x3), (4, .int x4)] from (xla1 (rv_cat _) (xla1 rfl (xla1 rfl (xla1 (rv_cat _) (xla1 rfl xla0)))))]
  exact uX12_readPart hq
