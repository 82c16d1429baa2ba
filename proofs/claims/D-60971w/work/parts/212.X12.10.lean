/-! PascalHouseModel, walked (11) -/
set_option maxRecDepth 100000 in
theorem dX12_writeAll_0 : decode cX12_writeAll 0 = .ok (.aload_n 0, 1) := by decide +kernel
set_option maxRecDepth 100000 in
theorem dX12_writeAll_1 : decode cX12_writeAll 1 = .ok (.getfield 82, 3) := by decide +kernel
set_option maxRecDepth 100000 in
theorem dX12_writeAll_4 : decode cX12_writeAll 4 = .ok (.iload_n 1, 1) := by decide +kernel
set_option maxRecDepth 100000 in
theorem dX12_writeAll_5 : decode cX12_writeAll 5 = .ok (.iaload, 1) := by decide +kernel
set_option maxRecDepth 100000 in
theorem dX12_writeAll_6 : decode cX12_writeAll 6 = .ok (.iconst (-1), 1) := by decide +kernel
set_option maxRecDepth 100000 in
theorem dX12_writeAll_7 : decode cX12_writeAll 7 = .ok (.if_icmp .ne 10, 3) := by decide +kernel
set_option maxRecDepth 100000 in
theorem dX12_writeAll_10 : decode cX12_writeAll 10 = .ok (.aload_n 0, 1) := by decide +kernel
set_option maxRecDepth 100000 in
theorem dX12_writeAll_11 : decode cX12_writeAll 11 = .ok (.getfield 731, 3) := by decide +kernel
set_option maxRecDepth 100000 in
theorem dX12_writeAll_14 : decode cX12_writeAll 14 = .ok (.goto 23, 3) := by decide +kernel
set_option maxRecDepth 100000 in
theorem dX12_writeAll_17 : decode cX12_writeAll 17 = .ok (.aload_n 0, 1) := by decide +kernel
set_option maxRecDepth 100000 in
theorem dX12_writeAll_18 : decode cX12_writeAll 18 = .ok (.getfield 102, 3) := by decide +kernel
set_option maxRecDepth 100000 in
theorem dX12_writeAll_21 : decode cX12_writeAll 21 = .ok (.aload_n 0, 1) := by decide +kernel
set_option maxRecDepth 100000 in
theorem dX12_writeAll_22 : decode cX12_writeAll 22 = .ok (.aload_n 0, 1) := by decide +kernel
set_option maxRecDepth 100000 in
theorem dX12_writeAll_23 : decode cX12_writeAll 23 = .ok (.getfield 73, 3) := by decide +kernel
set_option maxRecDepth 100000 in
theorem dX12_writeAll_26 : decode cX12_writeAll 26 = .ok (.aload_n 0, 1) := by decide +kernel
set_option maxRecDepth 100000 in
theorem dX12_writeAll_27 : decode cX12_writeAll 27 = .ok (.getfield 82, 3) := by decide +kernel
set_option maxRecDepth 100000 in
theorem dX12_writeAll_30 : decode cX12_writeAll 30 = .ok (.iload_n 1, 1) := by decide +kernel
set_option maxRecDepth 100000 in
theorem dX12_writeAll_31 : decode cX12_writeAll 31 = .ok (.iaload, 1) := by decide +kernel
set_option maxRecDepth 100000 in
theorem dX12_writeAll_32 : decode cX12_writeAll 32 = .ok (.iaload, 1) := by decide +kernel
set_option maxRecDepth 100000 in
theorem dX12_writeAll_33 : decode cX12_writeAll 33 = .ok (.invokevirtual 1022, 3) := by decide +kernel
set_option maxRecDepth 100000 in
theorem dX12_writeAll_36 : decode cX12_writeAll 36 = .ok (.aaload, 1) := by decide +kernel
set_option maxRecDepth 100000 in
theorem dX12_writeAll_37 : decode cX12_writeAll 37 = .ok (.astore_n 3, 1) := by decide +kernel
set_option maxRecDepth 100000 in
theorem dX12_writeAll_38 : decode cX12_writeAll 38 = .ok (.aload_n 0, 1) := by decide +kernel
set_option maxRecDepth 100000 in
theorem dX12_writeAll_39 : decode cX12_writeAll 39 = .ok (.aload_n 3, 1) := by decide +kernel
set_option maxRecDepth 100000 in
theorem dX12_writeAll_40 : decode cX12_writeAll 40 = .ok (.invokevirtual 1304, 3) := by decide +kernel
set_option maxRecDepth 100000 in
theorem dX12_writeAll_43 : decode cX12_writeAll 43 = .ok (.istore 4, 2) := by decide +kernel
set_option maxRecDepth 100000 in
theorem dX12_writeAll_45 : decode cX12_writeAll 45 = .ok (.aload_n 0, 1) := by decide +kernel
set_option maxRecDepth 100000 in
theorem dX12_writeAll_46 : decode cX12_writeAll 46 = .ok (.getfield 85, 3) := by decide +kernel
set_option maxRecDepth 100000 in
theorem dX12_writeAll_49 : decode cX12_writeAll 49 = .ok (.iload_n 1, 1) := by decide +kernel
set_option maxRecDepth 100000 in
theorem dX12_writeAll_50 : decode cX12_writeAll 50 = .ok (.iaload, 1) := by decide +kernel
set_option maxRecDepth 100000 in
theorem dX12_writeAll_51 : decode cX12_writeAll 51 = .ok (.istore 5, 2) := by decide +kernel
set_option maxRecDepth 100000 in
theorem dX12_writeAll_53 : decode cX12_writeAll 53 = .ok (.iload 5, 2) := by decide +kernel
set_option maxRecDepth 100000 in
theorem dX12_writeAll_55 : decode cX12_writeAll 55 = .ok (.iconst (-1), 1) := by decide +kernel
set_option maxRecDepth 100000 in
theorem dX12_writeAll_56 : decode cX12_writeAll 56 = .ok (.if_icmp .eq 71, 3) := by decide +kernel
set_option maxRecDepth 100000 in
theorem dX12_writeAll_59 : decode cX12_writeAll 59 = .ok (.aload_n 0, 1) := by decide +kernel
set_option maxRecDepth 100000 in
theorem dX12_writeAll_60 : decode cX12_writeAll 60 = .ok (.getfield 1121, 3) := by decide +kernel
set_option maxRecDepth 100000 in
theorem dX12_writeAll_63 : decode cX12_writeAll 63 = .ok (.ifCond .ne 64, 3) := by decide +kernel
set_option maxRecDepth 100000 in
theorem dX12_writeAll_66 : decode cX12_writeAll 66 = .ok (.aload_n 0, 1) := by decide +kernel
set_option maxRecDepth 100000 in
theorem dX12_writeAll_67 : decode cX12_writeAll 67 = .ok (.getfield 225, 3) := by decide +kernel
set_option maxRecDepth 100000 in
theorem dX12_writeAll_70 : decode cX12_writeAll 70 = .ok (.iload 4, 2) := by decide +kernel
set_option maxRecDepth 100000 in
theorem dX12_writeAll_72 : decode cX12_writeAll 72 = .ok (.aaload, 1) := by decide +kernel
set_option maxRecDepth 100000 in
theorem dX12_writeAll_73 : decode cX12_writeAll 73 = .ok (.invokevirtual 1040, 3) := by decide +kernel
set_option maxRecDepth 100000 in
theorem dX12_writeAll_76 : decode cX12_writeAll 76 = .ok (.ifCond .eq 20, 3) := by decide +kernel
set_option maxRecDepth 100000 in
theorem dX12_writeAll_79 : decode cX12_writeAll 79 = .ok (.aload_n 0, 1) := by decide +kernel
set_option maxRecDepth 100000 in
theorem dX12_writeAll_80 : decode cX12_writeAll 80 = .ok (.iload 4, 2) := by decide +kernel
set_option maxRecDepth 100000 in
theorem dX12_writeAll_82 : decode cX12_writeAll 82 = .ok (.iload 5, 2) := by decide +kernel
set_option maxRecDepth 100000 in
theorem dX12_writeAll_84 : decode cX12_writeAll 84 = .ok (.aload_n 0, 1) := by decide +kernel
set_option maxRecDepth 100000 in
theorem dX12_writeAll_85 : decode cX12_writeAll 85 = .ok (.getfield 70, 3) := by decide +kernel
set_option maxRecDepth 100000 in
theorem dX12_writeAll_88 : decode cX12_writeAll 88 = .ok (.iload_n 1, 1) := by decide +kernel
set_option maxRecDepth 100000 in
theorem dX12_writeAll_89 : decode cX12_writeAll 89 = .ok (.iaload, 1) := by decide +kernel
set_option maxRecDepth 100000 in
theorem dX12_writeAll_90 : decode cX12_writeAll 90 = .ok (.invokevirtual 1458, 3) := by decide +kernel
set_option maxRecDepth 100000 in
theorem dX12_writeAll_93 : decode cX12_writeAll 93 = .ok (.goto 22, 3) := by decide +kernel
set_option maxRecDepth 100000 in
theorem dX12_writeAll_96 : decode cX12_writeAll 96 = .ok (.aload_n 0, 1) := by decide +kernel
set_option maxRecDepth 100000 in
theorem dX12_writeAll_97 : decode cX12_writeAll 97 = .ok (.iload 4, 2) := by decide +kernel
set_option maxRecDepth 100000 in
theorem dX12_writeAll_99 : decode cX12_writeAll 99 = .ok (.aload_n 0, 1) := by decide +kernel
set_option maxRecDepth 100000 in
theorem dX12_writeAll_100 : decode cX12_writeAll 100 = .ok (.getfield 73, 3) := by decide +kernel
set_option maxRecDepth 100000 in
theorem dX12_writeAll_103 : decode cX12_writeAll 103 = .ok (.iload 5, 2) := by decide +kernel
set_option maxRecDepth 100000 in
theorem dX12_writeAll_105 : decode cX12_writeAll 105 = .ok (.iaload, 1) := by decide +kernel
set_option maxRecDepth 100000 in
theorem dX12_writeAll_106 : decode cX12_writeAll 106 = .ok (.aload_n 0, 1) := by decide +kernel
set_option maxRecDepth 100000 in
theorem dX12_writeAll_107 : decode cX12_writeAll 107 = .ok (.getfield 70, 3) := by decide +kernel
set_option maxRecDepth 100000 in
theorem dX12_writeAll_110 : decode cX12_writeAll 110 = .ok (.iload_n 1, 1) := by decide +kernel
set_option maxRecDepth 100000 in
theorem dX12_writeAll_111 : decode cX12_writeAll 111 = .ok (.iaload, 1) := by decide +kernel
set_option maxRecDepth 100000 in
theorem dX12_writeAll_112 : decode cX12_writeAll 112 = .ok (.invokevirtual 1461, 3) := by decide +kernel
set_option maxRecDepth 100000 in
theorem dX12_writeAll_115 : decode cX12_writeAll 115 = .ok (.aload_n 0, 1) := by decide +kernel
set_option maxRecDepth 100000 in
theorem dX12_writeAll_116 : decode cX12_writeAll 116 = .ok (.getfield 79, 3) := by decide +kernel
set_option maxRecDepth 100000 in
theorem dX12_writeAll_119 : decode cX12_writeAll 119 = .ok (.iload 5, 2) := by decide +kernel
set_option maxRecDepth 100000 in
theorem dX12_writeAll_121 : decode cX12_writeAll 121 = .ok (.iaload, 1) := by decide +kernel
set_option maxRecDepth 100000 in
theorem dX12_writeAll_122 : decode cX12_writeAll 122 = .ok (.istore 5, 2) := by decide +kernel
set_option maxRecDepth 100000 in
theorem dX12_writeAll_124 : decode cX12_writeAll 124 = .ok (.goto (-71), 3) := by decide +kernel
set_option maxRecDepth 100000 in
theorem dX12_writeAll_127 : decode cX12_writeAll 127 = .ok (.aload_n 0, 1) := by decide +kernel
set_option maxRecDepth 100000 in
theorem dX12_writeAll_128 : decode cX12_writeAll 128 = .ok (.getfield 1121, 3) := by decide +kernel
set_option maxRecDepth 100000 in
theorem dX12_writeAll_131 : decode cX12_writeAll 131 = .ok (.ifCond .ne 8, 3) := by decide +kernel
set_option maxRecDepth 100000 in
theorem dX12_writeAll_134 : decode cX12_writeAll 134 = .ok (.iload_n 2, 1) := by decide +kernel
set_option maxRecDepth 100000 in
theorem dX12_writeAll_135 : decode cX12_writeAll 135 = .ok (.iconst 3, 1) := by decide +kernel
set_option maxRecDepth 100000 in
theorem dX12_writeAll_136 : decode cX12_writeAll 136 = .ok (.if_icmp .ne 4, 3) := by decide +kernel
set_option maxRecDepth 100000 in
theorem dX12_writeAll_139 : decode cX12_writeAll 139 = .ok (.return_, 1) := by decide +kernel
set_option maxRecDepth 100000 in
theorem dX12_writeAll_140 : decode cX12_writeAll 140 = .ok (.aload_n 0, 1) := by decide +kernel
set_option maxRecDepth 100000 in
theorem dX12_writeAll_141 : decode cX12_writeAll 141 = .ok (.getfield 204, 3) := by decide +kernel
set_option maxRecDepth 100000 in
theorem dX12_writeAll_144 : decode cX12_writeAll 144 = .ok (.iload 4, 2) := by decide +kernel
set_option maxRecDepth 100000 in
theorem dX12_writeAll_146 : decode cX12_writeAll 146 = .ok (.iaload, 1) := by decide +kernel
set_option maxRecDepth 100000 in
theorem dX12_writeAll_147 : decode cX12_writeAll 147 = .ok (.iconst 2, 1) := by decide +kernel
set_option maxRecDepth 100000 in
theorem dX12_writeAll_148 : decode cX12_writeAll 148 = .ok (.if_icmp .eq 18, 3) := by decide +kernel
set_option maxRecDepth 100000 in
theorem dX12_writeAll_151 : decode cX12_writeAll 151 = .ok (.aload_n 0, 1) := by decide +kernel
set_option maxRecDepth 100000 in
theorem dX12_writeAll_152 : decode cX12_writeAll 152 = .ok (.bipush 10, 2) := by decide +kernel
set_option maxRecDepth 100000 in
theorem dX12_writeAll_154 : decode cX12_writeAll 154 = .ok (.aload_n 0, 1) := by decide +kernel
set_option maxRecDepth 100000 in
theorem dX12_writeAll_155 : decode cX12_writeAll 155 = .ok (.getfield 70, 3) := by decide +kernel
set_option maxRecDepth 100000 in
theorem dX12_writeAll_158 : decode cX12_writeAll 158 = .ok (.iload_n 1, 1) := by decide +kernel
set_option maxRecDepth 100000 in
theorem dX12_writeAll_159 : decode cX12_writeAll 159 = .ok (.iaload, 1) := by decide +kernel
set_option maxRecDepth 100000 in
theorem dX12_writeAll_160 : decode cX12_writeAll 160 = .ok (.invokevirtual 1142, 3) := by decide +kernel
set_option maxRecDepth 100000 in
theorem dX12_writeAll_163 : decode cX12_writeAll 163 = .ok (.goto 36, 3) := by decide +kernel
set_option maxRecDepth 100000 in
theorem dX12_writeAll_166 : decode cX12_writeAll 166 = .ok (.aload_n 0, 1) := by decide +kernel
set_option maxRecDepth 100000 in
theorem dX12_writeAll_167 : decode cX12_writeAll 167 = .ok (.iload 4, 2) := by decide +kernel
set_option maxRecDepth 100000 in
theorem dX12_writeAll_169 : decode cX12_writeAll 169 = .ok (.iconst 1, 1) := by decide +kernel
set_option maxRecDepth 100000 in
theorem dX12_writeAll_170 : decode cX12_writeAll 170 = .ok (.invokevirtual 1210, 3) := by decide +kernel
set_option maxRecDepth 100000 in
theorem dX12_writeAll_173 : decode cX12_writeAll 173 = .ok (.ifCond .ne 18, 3) := by decide +kernel
set_option maxRecDepth 100000 in
theorem dX12_writeAll_176 : decode cX12_writeAll 176 = .ok (.aload_n 0, 1) := by decide +kernel
set_option maxRecDepth 100000 in
theorem dX12_writeAll_177 : decode cX12_writeAll 177 = .ok (.bipush 14, 2) := by decide +kernel
set_option maxRecDepth 100000 in
theorem dX12_writeAll_179 : decode cX12_writeAll 179 = .ok (.aload_n 0, 1) := by decide +kernel
set_option maxRecDepth 100000 in
theorem dX12_writeAll_180 : decode cX12_writeAll 180 = .ok (.getfield 70, 3) := by decide +kernel
set_option maxRecDepth 100000 in
theorem dX12_writeAll_183 : decode cX12_writeAll 183 = .ok (.iload_n 1, 1) := by decide +kernel
set_option maxRecDepth 100000 in
theorem dX12_writeAll_184 : decode cX12_writeAll 184 = .ok (.iaload, 1) := by decide +kernel
set_option maxRecDepth 100000 in
theorem dX12_writeAll_185 : decode cX12_writeAll 185 = .ok (.invokevirtual 1142, 3) := by decide +kernel
set_option maxRecDepth 100000 in
theorem dX12_writeAll_188 : decode cX12_writeAll 188 = .ok (.goto 11, 3) := by decide +kernel
set_option maxRecDepth 100000 in
theorem dX12_writeAll_191 : decode cX12_writeAll 191 = .ok (.aload_n 0, 1) := by decide +kernel
set_option maxRecDepth 100000 in
theorem dX12_writeAll_192 : decode cX12_writeAll 192 = .ok (.iload 4, 2) := by decide +kernel
set_option maxRecDepth 100000 in
theorem dX12_writeAll_194 : decode cX12_writeAll 194 = .ok (.bipush 10, 2) := by decide +kernel
set_option maxRecDepth 100000 in
theorem dX12_writeAll_196 : decode cX12_writeAll 196 = .ok (.invokevirtual 1198, 3) := by decide +kernel
set_option maxRecDepth 100000 in
theorem dX12_writeAll_199 : decode cX12_writeAll 199 = .ok (.return_, 1) := by decide +kernel
def lX12_writeAll_53 (G : xG) (fr lo : Nat) (x0 : Nat) (x1 : Int32) (x2 : Int32) (x4 : Int32) (x5 : Int32) (h : xH) (Q : Outcome → xH → Prop) : Prop := xP G YX12_writeAll fr lo 53 [(0, rv x0), (1, .int x1), (2, .int x2), (4, .int x4), (5, .int x5)] [] h Q
set_option maxRecDepth 100000 in
def bX12_writeAll_199 (G : xG) (fr lo : Nat) (h : xH) (Q : Outcome → xH → Prop) : Prop := Q (.returned none) h
set_option maxRecDepth 100000 in
theorem uX12_writeAll_199 {G : xG} {fr lo : Nat} {h : xH} {Q : Outcome → xH → Prop} (hq : bX12_writeAll_199 G fr lo h Q) : xP G YX12_writeAll fr lo 199 [] [] h Q := by
  unfold bX12_writeAll_199 at hq
  exact x_vret rfl dX12_writeAll_199 hq
set_option maxRecDepth 100000 in
def bX12_writeAll_139 (G : xG) (fr lo : Nat) (h : xH) (Q : Outcome → xH → Prop) : Prop := Q (.returned none) h
set_option maxRecDepth 100000 in
theorem uX12_writeAll_139 {G : xG} {fr lo : Nat} {h : xH} {Q : Outcome → xH → Prop} (hq : bX12_writeAll_139 G fr lo h Q) : xP G YX12_writeAll fr lo 139 [] [] h Q := by
  unfold bX12_writeAll_139 at hq
  exact x_vret rfl dX12_writeAll_139 hq
set_option maxRecDepth 100000 in
def bX12_writeAll_127 (G : xG) (fr lo : Nat) (x0 : Nat) (x1 : Int32) (x2 : Int32) (x4 : Int32) (h : xH) (Q : Outcome → xH → Prop) : Prop := tg h x0 = 13 ∧ ((¬ (fI h x0 3170) = 0 → bX12_writeAll_139 G fr lo h Q) ∧ ((fI h x0 3170) = 0 → ((¬ x2 = 3 → tg h (fR h x0 3182) = 100 ∧ vp_in x4 (ln h (fR h x0 3182)) ∧ (((aI h (fR h x0 3182) (Int32.toNatClampNeg x4)) = 2 → 1 ≤ fr ∧ 14 ≤ lo ∧ xRi G YX12_hasRoom (fr - 1) (lo - 14) [rv x0, .int x4, .int 1] h (fun x10 h9 => xext h h9 → ((¬ x10 = 0 → 1 ≤ fr ∧ 15 ≤ lo ∧ xRv G YX12_linkByte (fr - 1) (lo - 15) [rv x0, .int x4, .int 10] h9 (fun h16 => xext h9 h16 → bX12_writeAll_199 G fr lo h16 Q) (fun r h2 => Q (.threw r) h2)) ∧ (x10 = 0 → tg h9 (fR h9 x0 3102) = 100 ∧ vp_in x1 (ln h9 (fR h9 x0 3102)) ∧ 1 ≤ fr ∧ 14 ≤ lo ∧ xRv G YX12_error (fr - 1) (lo - 14) [rv x0, .int 14, .int (aI h9 (fR h9 x0 3102) (Int32.toNatClampNeg x1))] h9 (fun h24 => xext h9 h24 → bX12_writeAll_199 G fr lo h24 Q) (fun r h2 => Q (.threw r) h2)))) (fun r h2 => Q (.threw r) h2)) ∧ (¬ (aI h (fR h x0 3182) (Int32.toNatClampNeg x4)) = 2 → tg h (fR h x0 3102) = 100 ∧ vp_in x1 (ln h (fR h x0 3102)) ∧ 1 ≤ fr ∧ 14 ≤ lo ∧ xRv G YX12_error (fr - 1) (lo - 14) [rv x0, .int 10, .int (aI h (fR h x0 3102) (Int32.toNatClampNeg x1))] h (fun h31 => xext h h31 → bX12_writeAll_199 G fr lo h31 Q) (fun r h2 => Q (.threw r) h2)))) ∧ (x2 = 3 → bX12_writeAll_139 G fr lo h Q))))
set_option maxRecDepth 100000 in
theorem uX12_writeAll_127 {G : xG} {fr lo : Nat} {x0 : Nat} {x1 : Int32} {x2 : Int32} {x4 : Int32} {h : xH} {Q : Outcome → xH → Prop} (hq : bX12_writeAll_127 G fr lo x0 x1 x2 x4 h Q) : xP G YX12_writeAll fr lo 127 [(0, rv x0), (1, .int x1), (2, .int x2), (4, .int x4)] [] h Q := by
  unfold bX12_writeAll_127 at hq
  refine x_aload_n 0 dX12_writeAll_127 rfl ?_
  obtain ⟨g1, hq⟩ := hq
  refine x_get (v := .int (fI h x0 3170)) fdX12_1121 dX12_writeAll_128 g1 rfl ?_
  refine x_if_ne (tgt := 139) dX12_writeAll_131 (by decide) (fun c2 => ?_) (fun c2 => ?_)
  · replace hq := hq.1 c2
    refine xP.pick (lv' := []) [] rfl ?_
    exact uX12_writeAll_139 hq
  · replace hq := hq.2 c2
    refine x_iload_n 2 dX12_writeAll_134 rfl ?_
    refine x_iconst (v := 3) dX12_writeAll_135 (by decide) ?_
    refine x_icmp_ne (tgt := 140) dX12_writeAll_136 (by decide) (fun c3 => ?_) (fun c3 => ?_)
    · replace hq := hq.1 c3
      refine x_aload_n 0 dX12_writeAll_140 rfl ?_
      refine x_get (v := rv (fR h x0 3182)) fdX12_204 dX12_writeAll_141 g1 rfl ?_
      refine x_iload 3 dX12_writeAll_144 rfl ?_
      obtain ⟨g4, hq⟩ := hq
      obtain ⟨i5, hq⟩ := hq
      refine x_iald 0 (Or.inl rfl) g4 i5 dX12_writeAll_146 ?_
      refine x_iconst (v := 2) dX12_writeAll_147 (by decide) ?_
      refine x_icmp_eq (tgt := 166) dX12_writeAll_148 (by decide) (fun c6 => ?_) (fun c6 => ?_)
      · replace hq := hq.1 c6
        refine x_aload_n 0 dX12_writeAll_166 rfl ?_
        refine x_iload 3 dX12_writeAll_167 rfl ?_
        refine x_iconst (v := 1) dX12_writeAll_169 (by decide) ?_
        obtain ⟨g7, g8, hq⟩ := hq
        refine x_callV (Yc := YX12_hasRoom) (as := [.int x4, .int 1]) (st := []) q4770 mvX12_hasRoom g1 rfl dX12_writeAll_170 (xle (xal1 (rv_cat _) (xal1 rfl (xal1 rfl xal0))) (by decide)) (xfr g7) (xlo xsw0 (by decide) g8) (xKi hq (fun x10 h9 hq e11 => ?_) (fun _ _ q _ => q))
        replace hq := hq e11
        refine x_if_ne (tgt := 191) dX12_writeAll_173 (by decide) (fun c12 => ?_) (fun c12 => ?_)
        · replace hq := hq.1 c12
          refine x_aload_n 0 dX12_writeAll_191 rfl ?_
          refine x_iload 3 dX12_writeAll_192 rfl ?_
          refine x_bipush (v := 10) dX12_writeAll_194 (by decide) ?_
          have t13 : tg h9 x0 = 13 := e11.tg g1 (by decide)
          obtain ⟨g14, g15, hq⟩ := hq
          refine x_callV (Yc := YX12_linkByte) (as := [.int x4, .int 10]) (st := []) q4514 mvX12_linkByte t13 rfl dX12_writeAll_196 (xle (xal1 (rv_cat _) (xal1 rfl (xal1 rfl xal0))) (by decide)) (xfr g14) (xlo xsw0 (by decide) g15) (xKv hq (fun h16 hq e18 => ?_) (fun _ _ q _ => q))
          replace hq := hq e18
          refine xP.pick (lv' := []) [] rfl ?_
          exact uX12_writeAll_199 hq
        · replace hq := hq.2 c12
          refine x_aload_n 0 dX12_writeAll_176 rfl ?_
          refine x_bipush (v := 14) dX12_writeAll_177 (by decide) ?_
          refine x_aload_n 0 dX12_writeAll_179 rfl ?_
          have t19 : tg h9 x0 = 13 := e11.tg g1 (by decide)
          refine x_get (v := rv (fR h9 x0 3102)) fdX12_70 dX12_writeAll_180 t19 rfl ?_
          refine x_iload_n 1 dX12_writeAll_183 rfl ?_
          obtain ⟨g20, hq⟩ := hq
          obtain ⟨i21, hq⟩ := hq
          refine x_iald 0 (Or.inl rfl) g20 i21 dX12_writeAll_184 ?_
          obtain ⟨g22, g23, hq⟩ := hq
          refine x_callV (Yc := YX12_error) (as := [.int 14, .int (aI h9 (fR h9 x0 3102) (Int32.toNatClampNeg x1))]) (st := []) q4490 mvX12_error t19 rfl dX12_writeAll_185 (xle (xal1 (rv_cat _) (xal1 rfl (xal1 rfl xal0))) (by decide)) (xfr g22) (xlo xsw0 (by decide) g23) (xKv hq (fun h24 hq e26 => ?_) (fun _ _ q _ => q))
          replace hq := hq e26
          refine x_goto (tgt := 199) dX12_writeAll_188 (by decide) ?_
          refine xP.pick (lv' := []) [] rfl ?_
          exact uX12_writeAll_199 hq
      · replace hq := hq.2 c6
        refine x_aload_n 0 dX12_writeAll_151 rfl ?_
        refine x_bipush (v := 10) dX12_writeAll_152 (by decide) ?_
        refine x_aload_n 0 dX12_writeAll_154 rfl ?_
        refine x_get (v := rv (fR h x0 3102)) fdX12_70 dX12_writeAll_155 g1 rfl ?_
        refine x_iload_n 1 dX12_writeAll_158 rfl ?_
        obtain ⟨g27, hq⟩ := hq
        obtain ⟨i28, hq⟩ := hq
        refine x_iald 0 (Or.inl rfl) g27 i28 dX12_writeAll_159 ?_
        obtain ⟨g29, g30, hq⟩ := hq
        refine x_callV (Yc := YX12_error) (as := [.int 10, .int (aI h (fR h x0 3102) (Int32.toNatClampNeg x1))]) (st := []) q4490 mvX12_error g1 rfl dX12_writeAll_160 (xle (xal1 (rv_cat _) (xal1 rfl (xal1 rfl xal0))) (by decide)) (xfr g29) (xlo xsw0 (by decide) g30) (xKv hq (fun h31 hq e33 => ?_) (fun _ _ q _ => q))
        replace hq := hq e33
        refine x_goto (tgt := 199) dX12_writeAll_163 (by decide) ?_
        refine xP.pick (lv' := []) [] rfl ?_
        exact uX12_writeAll_199 hq
    · replace hq := hq.2 c3
      refine xP.pick (lv' := []) [] rfl ?_
      exact uX12_writeAll_139 hq
set_option maxRecDepth 100000 in
def bX12_writeAll_115 (G : xG) (fr lo : Nat) (x0 : Nat) (x1 : Int32) (x2 : Int32) (x4 : Int32) (x5 : Int32) (h : xH) (Q : Outcome → xH → Prop) : Prop := tg h x0 = 13 ∧ tg h (fR h x0 3105) = 100 ∧ vp_in x5 (ln h (fR h x0 3105)) ∧ lX12_writeAll_53 G fr lo x0 x1 x2 x4 (aI h (fR h x0 3105) (Int32.toNatClampNeg x5)) h Q
set_option maxRecDepth 100000 in
theorem uX12_writeAll_115 {G : xG} {fr lo : Nat} {x0 : Nat} {x1 : Int32} {x2 : Int32} {x4 : Int32} {x5 : Int32} {h : xH} {Q : Outcome → xH → Prop} (hq : bX12_writeAll_115 G fr lo x0 x1 x2 x4 x5 h Q) : xP G YX12_writeAll fr lo 115 [(0, rv x0), (1, .int x1), (2, .int x2), (4, .int x4), (5, .int x5)] [] h Q := by
  unfold bX12_writeAll_115 at hq
  refine x_aload_n 0 dX12_writeAll_115 rfl ?_
  obtain ⟨g1, hq⟩ := hq
  refine x_get (v := rv (fR h x0 3105)) fdX12_79 dX12_writeAll_116 g1 rfl ?_
  refine x_iload 4 dX12_writeAll_119 rfl ?_
  obtain ⟨g2, hq⟩ := hq
  obtain ⟨i3, hq⟩ := hq
  refine x_iald 0 (Or.inl rfl) g2 i3 dX12_writeAll_121 ?_
  refine x_istore (lv' := [(5, .int (aI h (fR h x0 3105) (Int32.toNatClampNeg x5))), (0, rv x0), (1, .int x1), (2, .int x2), (4, .int x4)]) dX12_writeAll_122 (by decide) rfl ?_
  refine x_goto (tgt := 53) dX12_writeAll_124 (by decide) ?_
  refine xP.pick (lv' := [(0, rv x0), (1, .int x1), (2, .int x2), (4, .int x4), (5, .int (aI h (fR h x0 3105) (Int32.toNatClampNeg x5)))]) [1, 2, 3, 4, 0] rfl ?_
  exact hq
set_option maxRecDepth 100000 in
def bX12_writeAll_53 (G : xG) (fr lo : Nat) (x0 : Nat) (x1 : Int32) (x2 : Int32) (x4 : Int32) (x5 : Int32) (h : xH) (Q : Outcome → xH → Prop) : Prop := ((x5 = (-1) → bX12_writeAll_127 G fr lo x0 x1 x2 x4 h Q) ∧ (¬ x5 = (-1) → tg h x0 = 13 ∧ ((¬ (fI h x0 3170) = 0 → bX12_writeAll_127 G fr lo x0 x1 x2 x4 h Q) ∧ ((fI h x0 3170) = 0 → tg h (fR h x0 3189) = 108 ∧ vp_in x4 (ln h (fR h x0 3189)) ∧ tg h (aR h (fR h x0 3189) (Int32.toNatClampNeg x4)) = 14 ∧ 1 ≤ fr ∧ 12 ≤ lo ∧ xRi G YX13_isText (fr - 1) (lo - 12) [rv (aR h (fR h x0 3189) (Int32.toNatClampNeg x4))] h (fun x10 h9 => xext h h9 → ((x10 = 0 → tg h9 (fR h9 x0 3103) = 100 ∧ vp_in x5 (ln h9 (fR h9 x0 3103)) ∧ tg h9 (fR h9 x0 3102) = 100 ∧ vp_in x1 (ln h9 (fR h9 x0 3102)) ∧ 1 ≤ fr ∧ 15 ≤ lo ∧ xRv G YX12_writePart (fr - 1) (lo - 15) [rv x0, .int x4, .int (aI h9 (fR h9 x0 3103) (Int32.toNatClampNeg x5)), .int (aI h9 (fR h9 x0 3102) (Int32.toNatClampNeg x1))] h9 (fun h20 => xext h9 h20 → bX12_writeAll_115 G fr lo x0 x1 x2 x4 x5 h20 Q) (fun r h2 => Q (.threw r) h2)) ∧ (¬ x10 = 0 → tg h9 (fR h9 x0 3102) = 100 ∧ vp_in x1 (ln h9 (fR h9 x0 3102)) ∧ 1 ≤ fr ∧ 28 ≤ lo ∧ xRv G YX12_writeText (fr - 1) (lo - 28) [rv x0, .int x4, .int x5, .int (aI h9 (fR h9 x0 3102) (Int32.toNatClampNeg x1))] h9 (fun h28 => xext h9 h28 → bX12_writeAll_115 G fr lo x0 x1 x2 x4 x5 h28 Q) (fun r h2 => Q (.threw r) h2)))) (fun r h2 => Q (.threw r) h2)))))
set_option maxRecDepth 100000 in
theorem uX12_writeAll_53 {G : xG} {fr lo : Nat} {x0 : Nat} {x1 : Int32} {x2 : Int32} {x4 : Int32} {x5 : Int32} {h : xH} {Q : Outcome → xH → Prop} (hq : bX12_writeAll_53 G fr lo x0 x1 x2 x4 x5 h Q) : xP G YX12_writeAll fr lo 53 [(0, rv x0), (1, .int x1), (2, .int x2), (4, .int x4), (5, .int x5)] [] h Q := by
  unfold bX12_writeAll_53 at hq
  refine x_iload 4 dX12_writeAll_53 rfl ?_
  refine x_iconst (v := (-1)) dX12_writeAll_55 (by decide) ?_
  refine x_icmp_eq (tgt := 127) dX12_writeAll_56 (by decide) (fun c1 => ?_) (fun c1 => ?_)
  · replace hq := hq.1 c1
    refine xP.pick (lv' := [(0, rv x0), (1, .int x1), (2, .int x2), (4, .int x4)]) [0, 1, 2, 3] rfl ?_
    exact uX12_writeAll_127 hq
  · replace hq := hq.2 c1
    refine x_aload_n 0 dX12_writeAll_59 rfl ?_
    obtain ⟨g2, hq⟩ := hq
    refine x_get (v := .int (fI h x0 3170)) fdX12_1121 dX12_writeAll_60 g2 rfl ?_
    refine x_if_ne (tgt := 127) dX12_writeAll_63 (by decide) (fun c3 => ?_) (fun c3 => ?_)
    · replace hq := hq.1 c3
      refine xP.pick (lv' := [(0, rv x0), (1, .int x1), (2, .int x2), (4, .int x4)]) [0, 1, 2, 3] rfl ?_
      exact uX12_writeAll_127 hq
    · replace hq := hq.2 c3
      refine x_aload_n 0 dX12_writeAll_66 rfl ?_
      refine x_get (v := rv (fR h x0 3189)) fdX12_225 dX12_writeAll_67 g2 rfl ?_
      refine x_iload 3 dX12_writeAll_70 rfl ?_
      obtain ⟨g4, hq⟩ := hq
      obtain ⟨i5, hq⟩ := hq
      refine x_aald 8 rfl g4 (by decide) i5 dX12_writeAll_72 ?_
      obtain ⟨g6, hq⟩ := hq
      obtain ⟨g7, g8, hq⟩ := hq
      refine x_callV (Yc := YX13_isText) (as := []) (st := []) q4352 mvX13_isText g6 rfl dX12_writeAll_73 (xle (xal1 (rv_cat _) xal0) (by decide)) (xfr g7) (xlo xsw0 (by decide) g8) (xKi hq (fun x10 h9 hq e11 => ?_) (fun _ _ q _ => q))
      replace hq := hq e11
      refine x_if_eq (tgt := 96) dX12_writeAll_76 (by decide) (fun c12 => ?_) (fun c12 => ?_)
      · replace hq := hq.1 c12
        refine x_aload_n 0 dX12_writeAll_96 rfl ?_
        refine x_iload 3 dX12_writeAll_97 rfl ?_
        refine x_aload_n 0 dX12_writeAll_99 rfl ?_
        have t13 : tg h9 x0 = 13 := e11.tg g2 (by decide)
        refine x_get (v := rv (fR h9 x0 3103)) fdX12_73 dX12_writeAll_100 t13 rfl ?_
        refine x_iload 4 dX12_writeAll_103 rfl ?_
        obtain ⟨g14, hq⟩ := hq
        obtain ⟨i15, hq⟩ := hq
        refine x_iald 0 (Or.inl rfl) g14 i15 dX12_writeAll_105 ?_
        refine x_aload_n 0 dX12_writeAll_106 rfl ?_
        refine x_get (v := rv (fR h9 x0 3102)) fdX12_70 dX12_writeAll_107 t13 rfl ?_
        refine x_iload_n 1 dX12_writeAll_110 rfl ?_
        obtain ⟨g16, hq⟩ := hq
        obtain ⟨i17, hq⟩ := hq
        refine x_iald 0 (Or.inl rfl) g16 i17 dX12_writeAll_111 ?_
        obtain ⟨g18, g19, hq⟩ := hq
        refine x_callV (Yc := YX12_writePart) (as := [.int x4, .int (aI h9 (fR h9 x0 3103) (Int32.toNatClampNeg x5)), .int (aI h9 (fR h9 x0 3102) (Int32.toNatClampNeg x1))]) (st := []) q4795 mvX12_writePart t13 rfl dX12_writeAll_112 (xle (xal1 (rv_cat _) (xal1 rfl (xal1 rfl (xal1 rfl xal0)))) (by decide)) (xfr g18) (xlo xsw0 (by decide) g19) (xKv hq (fun h20 hq e22 => ?_) (fun _ _ q _ => q))
        replace hq := hq e22
        exact uX12_writeAll_115 hq
      · replace hq := hq.2 c12
        refine x_aload_n 0 dX12_writeAll_79 rfl ?_
        refine x_iload 3 dX12_writeAll_80 rfl ?_
        refine x_iload 4 dX12_writeAll_82 rfl ?_
        refine x_aload_n 0 dX12_writeAll_84 rfl ?_
        have t23 : tg h9 x0 = 13 := e11.tg g2 (by decide)
        refine x_get (v := rv (fR h9 x0 3102)) fdX12_70 dX12_writeAll_85 t23 rfl ?_
        refine x_iload_n 1 dX12_writeAll_88 rfl ?_
        obtain ⟨g24, hq⟩ := hq
        obtain ⟨i25, hq⟩ := hq
        refine x_iald 0 (Or.inl rfl) g24 i25 dX12_writeAll_89 ?_
        obtain ⟨g26, g27, hq⟩ := hq
        refine x_callV (Yc := YX12_writeText) (as := [.int x4, .int x5, .int (aI h9 (fR h9 x0 3102) (Int32.toNatClampNeg x1))]) (st := []) q4760 mvX12_writeText t23 rfl dX12_writeAll_90 (xle (xal1 (rv_cat _) (xal1 rfl (xal1 rfl (xal1 rfl xal0)))) (by decide)) (xfr g26) (xlo xsw0 (by decide) g27) (xKv hq (fun h28 hq e30 => ?_) (fun _ _ q _ => q))
        replace hq := hq e30
        refine x_goto (tgt := 115) dX12_writeAll_93 (by decide) ?_
        exact uX12_writeAll_115 hq
set_option maxRecDepth 100000 in
def bX12_writeAll_37 (G : xG) (fr lo : Nat) (x0 : Nat) (x1 : Int32) (x2 : Int32) (s0 : Nat) (h : xH) (Q : Outcome → xH → Prop) : Prop := tg h x0 = 13 ∧ 1 ≤ fr ∧ 13 ≤ lo ∧ xRi G YX12_fileOfRun (fr - 1) (lo - 13) [rv x0, rv s0] h (fun x5 h4 => xext h h4 → tg h4 (fR h4 x0 3107) = 100 ∧ vp_in x1 (ln h4 (fR h4 x0 3107)) ∧ lX12_writeAll_53 G fr lo x0 x1 x2 x5 (aI h4 (fR h4 x0 3107) (Int32.toNatClampNeg x1)) h4 Q) (fun r h2 => Q (.threw r) h2)
set_option maxRecDepth 100000 in
theorem uX12_writeAll_37 {G : xG} {fr lo : Nat} {x0 : Nat} {x1 : Int32} {x2 : Int32} {s0 : Nat} {h : xH} {Q : Outcome → xH → Prop} (hq : bX12_writeAll_37 G fr lo x0 x1 x2 s0 h Q) : xP G YX12_writeAll fr lo 37 [(0, rv x0), (1, .int x1), (2, .int x2)] [rv s0] h Q := by
  unfold bX12_writeAll_37 at hq
  refine x_astore_n (lv' := [(3, rv s0), (0, rv x0), (1, .int x1), (2, .int x2)]) dX12_writeAll_37 (by decide) rfl ?_
  refine x_aload_n 1 dX12_writeAll_38 rfl ?_
  refine x_aload_n 0 dX12_writeAll_39 rfl ?_
  obtain ⟨g1, hq⟩ := hq
  obtain ⟨g2, g3, hq⟩ := hq
  refine x_callV (Yc := YX12_fileOfRun) (as := [rv s0]) (st := []) q4502 mvX12_fileOfRun g1 rfl dX12_writeAll_40 (xle (xal1 (rv_cat _) (xal1 (rv_cat _) xal0)) (by decide)) (xfr g2) (xlo xsw0 (by decide) g3) (xKi hq (fun x5 h4 hq e6 => ?_) (fun _ _ q _ => q))
  replace hq := hq e6
  refine x_istore (lv' := [(4, .int x5), (3, rv s0), (0, rv x0), (1, .int x1), (2, .int x2)]) dX12_writeAll_43 (by decide) (by first | rfl | (simp [rv_cat, Value.category]; done) | (simp [rv_cat, Value.category]; decide)) ?_
  refine x_aload_n 2 dX12_writeAll_45 rfl ?_
  have t7 : tg h4 x0 = 13 := e6.tg g1 (by decide)
  refine x_get (v := rv (fR h4 x0 3107)) fdX12_85 dX12_writeAll_46 t7 rfl ?_
  refine x_iload_n 3 dX12_writeAll_49 rfl ?_
  obtain ⟨g8, hq⟩ := hq
  obtain ⟨i9, hq⟩ := hq
  refine x_iald 0 (Or.inl rfl) g8 i9 dX12_writeAll_50 ?_
  refine x_istore (lv' := [(5, .int (aI h4 (fR h4 x0 3107) (Int32.toNatClampNeg x1))), (4, .int x5), (3, rv s0), (0, rv x0), (1, .int x1), (2, .int x2)]) dX12_writeAll_51 (by decide) rfl ?_
  refine xP.pick (lv' := [(0, rv x0), (1, .int x1), (2, .int x2), (4, .int x5), (5, .int (aI h4 (fR h4 x0 3107) (Int32.toNatClampNeg x1)))]) [3, 4, 5, 1, 0] rfl ?_
  exact hq
set_option maxRecDepth 100000 in
def bX12_writeAll (G : xG) (fr lo : Nat) (x0 : Nat) (x1 : Int32) (x2 : Int32) (h : xH) (Q : Outcome → xH → Prop) : Prop := tg h x0 = 13 ∧ tg h (fR h x0 3106) = 100 ∧ vp_in x1 (ln h (fR h x0 3106)) ∧ ((¬ (aI h (fR h x0 3106) (Int32.toNatClampNeg x1)) = (-1) → vp_in x1 (ln h (fR h x0 3106)) ∧ tg h (fR h x0 3103) = 100 ∧ vp_in (aI h (fR h x0 3106) (Int32.toNatClampNeg x1)) (ln h (fR h x0 3103)) ∧ 1 ≤ fr ∧ 16 ≤ lo ∧ xRi G YX12_loneVariable (fr - 1) (lo - 16) [rv x0, .int (aI h (fR h x0 3103) (Int32.toNatClampNeg (aI h (fR h x0 3106) (Int32.toNatClampNeg x1))))] h (fun x11 h10 => xext h h10 → tg h10 (fR h x0 3114) = 109 ∧ vp_in x11 (ln h10 (fR h x0 3114)) ∧ bX12_writeAll_37 G fr lo x0 x1 x2 (aR h10 (fR h x0 3114) (Int32.toNatClampNeg x11)) h10 Q) (fun r h2 => Q (.threw r) h2)) ∧ ((aI h (fR h x0 3106) (Int32.toNatClampNeg x1)) = (-1) → bX12_writeAll_37 G fr lo x0 x1 x2 (fR h x0 3130) h Q))
set_option maxRecDepth 100000 in
theorem uX12_writeAll {G : xG} {fr lo : Nat} {x0 : Nat} {x1 : Int32} {x2 : Int32} {h : xH} {Q : Outcome → xH → Prop} (hq : bX12_writeAll G fr lo x0 x1 x2 h Q) : xP G YX12_writeAll fr lo 0 [(0, rv x0), (1, .int x1), (2, .int x2)] [] h Q := by
  unfold bX12_writeAll at hq
  refine x_aload_n 0 dX12_writeAll_0 rfl ?_
  obtain ⟨g1, hq⟩ := hq
  refine x_get (v := rv (fR h x0 3106)) fdX12_82 dX12_writeAll_1 g1 rfl ?_
  refine x_iload_n 1 dX12_writeAll_4 rfl ?_
  obtain ⟨g2, hq⟩ := hq
  obtain ⟨i3, hq⟩ := hq
  refine x_iald 0 (Or.inl rfl) g2 i3 dX12_writeAll_5 ?_
  refine x_iconst (v := (-1)) dX12_writeAll_6 (by decide) ?_
  refine x_icmp_ne (tgt := 17) dX12_writeAll_7 (by decide) (fun c4 => ?_) (fun c4 => ?_)
  · replace hq := hq.1 c4
    refine x_aload_n 0 dX12_writeAll_17 rfl ?_
    refine x_get (v := rv (fR h x0 3114)) fdX12_102 dX12_writeAll_18 g1 rfl ?_
    refine x_aload_n 0 dX12_writeAll_21 rfl ?_
    refine x_aload_n 0 dX12_writeAll_22 rfl ?_
    refine x_get (v := rv (fR h x0 3103)) fdX12_73 dX12_writeAll_23 g1 rfl ?_
    refine x_aload_n 0 dX12_writeAll_26 rfl ?_
    refine x_get (v := rv (fR h x0 3106)) fdX12_82 dX12_writeAll_27 g1 rfl ?_
    refine x_iload_n 1 dX12_writeAll_30 rfl ?_
    obtain ⟨i5, hq⟩ := hq
    refine x_iald 0 (Or.inl rfl) g2 i5 dX12_writeAll_31 ?_
    obtain ⟨g6, hq⟩ := hq
    obtain ⟨i7, hq⟩ := hq
    refine x_iald 0 (Or.inl rfl) g6 i7 dX12_writeAll_32 ?_
    obtain ⟨g8, g9, hq⟩ := hq
    refine x_callV (Yc := YX12_loneVariable) (as := [.int (aI h (fR h x0 3103) (Int32.toNatClampNeg (aI h (fR h x0 3106) (Int32.toNatClampNeg x1))))]) (st := [rv (fR h x0 3114)]) q4348 mvX12_loneVariable g1 rfl dX12_writeAll_33 (xle (xal1 (rv_cat _) (xal1 rfl xal0)) (by decide)) (xfr g8) (xlo (xsw1 (rv_cat _) xsw0) (by decide) g9) (xKi hq (fun x11 h10 hq e12 => ?_) (fun _ _ q _ => q))
    replace hq := hq e12
    obtain ⟨g13, hq⟩ := hq
    obtain ⟨i14, hq⟩ := hq
    refine x_aald 9 rfl g13 (by decide) i14 dX12_writeAll_36 ?_
    exact uX12_writeAll_37 hq
  · replace hq := hq.2 c4
    refine x_aload_n 0 dX12_writeAll_10 rfl ?_
    refine x_get (v := rv (fR h x0 3130)) fdX12_731 dX12_writeAll_11 g1 rfl ?_
    refine x_goto (tgt := 37) dX12_writeAll_14 (by decide) ?_
    exact uX12_writeAll_37 hq
theorem rX12_writeAll {G : xG} {fr lo : Nat} {x0 : Nat} {x1 : Int32} {x2 : Int32} {h : xH} {Q : Outcome → xH → Prop} (hq : bX12_writeAll G fr lo x0 x1 x2 h Q) : xR G YX12_writeAll fr lo [rv x0, .int x1, .int x2] h Q := by
  show xP _ _ _ _ _ (lv_args 0 _) _ _ _
  rw [show lv_args 0 [rv x0, .int x1, .int x2] = [(0, rv x0), (1, .int x1), (2, .int x2)] from (xla1 (rv_cat _) (xla1 rfl (xla1 rfl xla0)))]
  exact uX12_writeAll hq
set_option maxRecDepth 100000 in
theorem dX12_writeText_0 : decode cX12_writeText 0 = .ok (.aload_n 0, 1) := by decide +kernel
set_option maxRecDepth 100000 in
theorem dX12_writeText_1 : decode cX12_writeText 1 = .ok (.getfield 73, 3) := by decide +kernel
set_option maxRecDepth 100000 in
theorem dX12_writeText_4 : decode cX12_writeText 4 = .ok (.iload_n 2, 1) := by decide +kernel
set_option maxRecDepth 100000 in
theorem dX12_writeText_5 : decode cX12_writeText 5 = .ok (.iaload, 1) := by decide +kernel
set_option maxRecDepth 100000 in
theorem dX12_writeText_6 : decode cX12_writeText 6 = .ok (.istore 4, 2) := by decide +kernel
set_option maxRecDepth 100000 in
theorem dX12_writeText_8 : decode cX12_writeText 8 = .ok (.aload_n 0, 1) := by decide +kernel
set_option maxRecDepth 100000 in
theorem dX12_writeText_9 : decode cX12_writeText 9 = .ok (.iload 4, 2) := by decide +kernel
set_option maxRecDepth 100000 in
theorem dX12_writeText_11 : decode cX12_writeText 11 = .ok (.invokevirtual 1233, 3) := by decide +kernel
set_option maxRecDepth 100000 in
theorem dX12_writeText_14 : decode cX12_writeText 14 = .ok (.aload_n 0, 1) := by decide +kernel
set_option maxRecDepth 100000 in
theorem dX12_writeText_15 : decode cX12_writeText 15 = .ok (.getfield 1121, 3) := by decide +kernel
set_option maxRecDepth 100000 in
theorem dX12_writeText_18 : decode cX12_writeText 18 = .ok (.ifCond .eq 4, 3) := by decide +kernel
set_option maxRecDepth 100000 in
theorem dX12_writeText_21 : decode cX12_writeText 21 = .ok (.return_, 1) := by decide +kernel
set_option maxRecDepth 100000 in
theorem dX12_writeText_22 : decode cX12_writeText 22 = .ok (.aload_n 0, 1) := by decide +kernel
set_option maxRecDepth 100000 in
theorem dX12_writeText_23 : decode cX12_writeText 23 = .ok (.getfield 1145, 3) := by decide +kernel
set_option maxRecDepth 100000 in
theorem dX12_writeText_26 : decode cX12_writeText 26 = .ok (.lstore 5, 2) := by decide +kernel
set_option maxRecDepth 100000 in
theorem dX12_writeText_28 : decode cX12_writeText 28 = .ok (.aload_n 0, 1) := by decide +kernel
set_option maxRecDepth 100000 in
theorem dX12_writeText_29 : decode cX12_writeText 29 = .ok (.getfield 1151, 3) := by decide +kernel
set_option maxRecDepth 100000 in
theorem dX12_writeText_32 : decode cX12_writeText 32 = .ok (.dstore 7, 2) := by decide +kernel
set_option maxRecDepth 100000 in
theorem dX12_writeText_34 : decode cX12_writeText 34 = .ok (.aload_n 0, 1) := by decide +kernel
set_option maxRecDepth 100000 in
theorem dX12_writeText_35 : decode cX12_writeText 35 = .ok (.getfield 1136, 3) := by decide +kernel
set_option maxRecDepth 100000 in
theorem dX12_writeText_38 : decode cX12_writeText 38 = .ok (.istore 9, 2) := by decide +kernel
set_option maxRecDepth 100000 in
theorem dX12_writeText_40 : decode cX12_writeText 40 = .ok (.ldc2_w 1160, 3) := by decide +kernel
set_option maxRecDepth 100000 in
theorem dX12_writeText_43 : decode cX12_writeText 43 = .ok (.lstore 10, 2) := by decide +kernel
set_option maxRecDepth 100000 in
theorem dX12_writeText_45 : decode cX12_writeText 45 = .ok (.ldc2_w 1160, 3) := by decide +kernel
set_option maxRecDepth 100000 in
theorem dX12_writeText_48 : decode cX12_writeText 48 = .ok (.lstore 12, 2) := by decide +kernel
set_option maxRecDepth 100000 in
theorem dX12_writeText_50 : decode cX12_writeText 50 = .ok (.aload_n 0, 1) := by decide +kernel
set_option maxRecDepth 100000 in
theorem dX12_writeText_51 : decode cX12_writeText 51 = .ok (.getfield 82, 3) := by decide +kernel
set_option maxRecDepth 100000 in
theorem dX12_writeText_54 : decode cX12_writeText 54 = .ok (.iload_n 2, 1) := by decide +kernel
set_option maxRecDepth 100000 in
theorem dX12_writeText_55 : decode cX12_writeText 55 = .ok (.iaload, 1) := by decide +kernel
set_option maxRecDepth 100000 in
theorem dX12_writeText_56 : decode cX12_writeText 56 = .ok (.iconst (-1), 1) := by decide +kernel
set_option maxRecDepth 100000 in
theorem dX12_writeText_57 : decode cX12_writeText 57 = .ok (.if_icmp .eq 28, 3) := by decide +kernel
set_option maxRecDepth 100000 in
theorem dX12_writeText_60 : decode cX12_writeText 60 = .ok (.aload_n 0, 1) := by decide +kernel
set_option maxRecDepth 100000 in
theorem dX12_writeText_61 : decode cX12_writeText 61 = .ok (.aload_n 0, 1) := by decide +kernel
set_option maxRecDepth 100000 in
theorem dX12_writeText_62 : decode cX12_writeText 62 = .ok (.getfield 79, 3) := by decide +kernel
set_option maxRecDepth 100000 in
theorem dX12_writeText_65 : decode cX12_writeText 65 = .ok (.iload 4, 2) := by decide +kernel
set_option maxRecDepth 100000 in
theorem dX12_writeText_67 : decode cX12_writeText 67 = .ok (.iaload, 1) := by decide +kernel
set_option maxRecDepth 100000 in
theorem dX12_writeText_68 : decode cX12_writeText 68 = .ok (.invokevirtual 1233, 3) := by decide +kernel
set_option maxRecDepth 100000 in
theorem dX12_writeText_71 : decode cX12_writeText 71 = .ok (.aload_n 0, 1) := by decide +kernel
set_option maxRecDepth 100000 in
theorem dX12_writeText_72 : decode cX12_writeText 72 = .ok (.getfield 1121, 3) := by decide +kernel
set_option maxRecDepth 100000 in
theorem dX12_writeText_75 : decode cX12_writeText 75 = .ok (.ifCond .eq 4, 3) := by decide +kernel
set_option maxRecDepth 100000 in
theorem dX12_writeText_78 : decode cX12_writeText 78 = .ok (.return_, 1) := by decide +kernel
set_option maxRecDepth 100000 in
theorem dX12_writeText_79 : decode cX12_writeText 79 = .ok (.aload_n 0, 1) := by decide +kernel
set_option maxRecDepth 100000 in
theorem dX12_writeText_80 : decode cX12_writeText 80 = .ok (.getfield 1145, 3) := by decide +kernel
set_option maxRecDepth 100000 in
theorem dX12_writeText_83 : decode cX12_writeText 83 = .ok (.lstore 10, 2) := by decide +kernel
set_option maxRecDepth 100000 in
theorem dX12_writeText_85 : decode cX12_writeText 85 = .ok (.aload_n 0, 1) := by decide +kernel
set_option maxRecDepth 100000 in
theorem dX12_writeText_86 : decode cX12_writeText 86 = .ok (.getfield 85, 3) := by decide +kernel
set_option maxRecDepth 100000 in
theorem dX12_writeText_89 : decode cX12_writeText 89 = .ok (.iload_n 2, 1) := by decide +kernel
set_option maxRecDepth 100000 in
theorem dX12_writeText_90 : decode cX12_writeText 90 = .ok (.iaload, 1) := by decide +kernel
set_option maxRecDepth 100000 in
theorem dX12_writeText_91 : decode cX12_writeText 91 = .ok (.iconst (-1), 1) := by decide +kernel
set_option maxRecDepth 100000 in
theorem dX12_writeText_92 : decode cX12_writeText 92 = .ok (.if_icmp .eq 33, 3) := by decide +kernel
set_option maxRecDepth 100000 in
theorem dX12_writeText_95 : decode cX12_writeText 95 = .ok (.aload_n 0, 1) := by decide +kernel
set_option maxRecDepth 100000 in
theorem dX12_writeText_96 : decode cX12_writeText 96 = .ok (.aload_n 0, 1) := by decide +kernel
set_option maxRecDepth 100000 in
theorem dX12_writeText_97 : decode cX12_writeText 97 = .ok (.getfield 79, 3) := by decide +kernel
set_option maxRecDepth 100000 in
theorem dX12_writeText_100 : decode cX12_writeText 100 = .ok (.aload_n 0, 1) := by decide +kernel
set_option maxRecDepth 100000 in
theorem dX12_writeText_101 : decode cX12_writeText 101 = .ok (.getfield 79, 3) := by decide +kernel
set_option maxRecDepth 100000 in
theorem dX12_writeText_104 : decode cX12_writeText 104 = .ok (.iload 4, 2) := by decide +kernel
set_option maxRecDepth 100000 in
theorem dX12_writeText_106 : decode cX12_writeText 106 = .ok (.iaload, 1) := by decide +kernel
set_option maxRecDepth 100000 in
theorem dX12_writeText_107 : decode cX12_writeText 107 = .ok (.iaload, 1) := by decide +kernel
set_option maxRecDepth 100000 in
theorem dX12_writeText_108 : decode cX12_writeText 108 = .ok (.invokevirtual 1233, 3) := by decide +kernel
set_option maxRecDepth 100000 in
theorem dX12_writeText_111 : decode cX12_writeText 111 = .ok (.aload_n 0, 1) := by decide +kernel
set_option maxRecDepth 100000 in
theorem dX12_writeText_112 : decode cX12_writeText 112 = .ok (.getfield 1121, 3) := by decide +kernel
set_option maxRecDepth 100000 in
theorem dX12_writeText_115 : decode cX12_writeText 115 = .ok (.ifCond .eq 4, 3) := by decide +kernel
set_option maxRecDepth 100000 in
theorem dX12_writeText_118 : decode cX12_writeText 118 = .ok (.return_, 1) := by decide +kernel
set_option maxRecDepth 100000 in
theorem dX12_writeText_119 : decode cX12_writeText 119 = .ok (.aload_n 0, 1) := by decide +kernel
set_option maxRecDepth 100000 in
theorem dX12_writeText_120 : decode cX12_writeText 120 = .ok (.getfield 1145, 3) := by decide +kernel
set_option maxRecDepth 100000 in
theorem dX12_writeText_123 : decode cX12_writeText 123 = .ok (.lstore 12, 2) := by decide +kernel
set_option maxRecDepth 100000 in
theorem dX12_writeText_125 : decode cX12_writeText 125 = .ok (.aload_n 0, 1) := by decide +kernel
set_option maxRecDepth 100000 in
theorem dX12_writeText_126 : decode cX12_writeText 126 = .ok (.getfield 204, 3) := by decide +kernel
set_option maxRecDepth 100000 in
theorem dX12_writeText_129 : decode cX12_writeText 129 = .ok (.iload_n 1, 1) := by decide +kernel
set_option maxRecDepth 100000 in
theorem dX12_writeText_130 : decode cX12_writeText 130 = .ok (.iaload, 1) := by decide +kernel
set_option maxRecDepth 100000 in
theorem dX12_writeText_131 : decode cX12_writeText 131 = .ok (.iconst 2, 1) := by decide +kernel
set_option maxRecDepth 100000 in
theorem dX12_writeText_132 : decode cX12_writeText 132 = .ok (.if_icmp .eq 13, 3) := by decide +kernel
set_option maxRecDepth 100000 in
theorem dX12_writeText_135 : decode cX12_writeText 135 = .ok (.aload_n 0, 1) := by decide +kernel
set_option maxRecDepth 100000 in
theorem dX12_writeText_136 : decode cX12_writeText 136 = .ok (.bipush 10, 2) := by decide +kernel
set_option maxRecDepth 100000 in
theorem dX12_writeText_138 : decode cX12_writeText 138 = .ok (.iload_n 3, 1) := by decide +kernel
set_option maxRecDepth 100000 in
theorem dX12_writeText_139 : decode cX12_writeText 139 = .ok (.invokevirtual 1142, 3) := by decide +kernel
set_option maxRecDepth 100000 in
theorem dX12_writeText_142 : decode cX12_writeText 142 = .ok (.goto 82, 3) := by decide +kernel
set_option maxRecDepth 100000 in
theorem dX12_writeText_145 : decode cX12_writeText 145 = .ok (.aload_n 0, 1) := by decide +kernel
set_option maxRecDepth 100000 in
theorem dX12_writeText_146 : decode cX12_writeText 146 = .ok (.getfield 82, 3) := by decide +kernel
set_option maxRecDepth 100000 in
theorem dX12_writeText_149 : decode cX12_writeText 149 = .ok (.iload_n 2, 1) := by decide +kernel
set_option maxRecDepth 100000 in
theorem dX12_writeText_150 : decode cX12_writeText 150 = .ok (.iaload, 1) := by decide +kernel
set_option maxRecDepth 100000 in
theorem dX12_writeText_151 : decode cX12_writeText 151 = .ok (.iconst (-1), 1) := by decide +kernel
set_option maxRecDepth 100000 in
theorem dX12_writeText_152 : decode cX12_writeText 152 = .ok (.if_icmp .eq 34, 3) := by decide +kernel
set_option maxRecDepth 100000 in
theorem dX12_writeText_155 : decode cX12_writeText 155 = .ok (.lload 10, 2) := by decide +kernel
set_option maxRecDepth 100000 in
theorem dX12_writeText_157 : decode cX12_writeText 157 = .ok (.lconst 1, 1) := by decide +kernel
set_option maxRecDepth 100000 in
theorem dX12_writeText_158 : decode cX12_writeText 158 = .ok (.lcmp, 1) := by decide +kernel
set_option maxRecDepth 100000 in
theorem dX12_writeText_159 : decode cX12_writeText 159 = .ok (.ifCond .lt 12, 3) := by decide +kernel
set_option maxRecDepth 100000 in
theorem dX12_writeText_162 : decode cX12_writeText 162 = .ok (.lload 10, 2) := by decide +kernel
set_option maxRecDepth 100000 in
theorem dX12_writeText_164 : decode cX12_writeText 164 = .ok (.ldc2_w 1464, 3) := by decide +kernel
set_option maxRecDepth 100000 in
theorem dX12_writeText_167 : decode cX12_writeText 167 = .ok (.lcmp, 1) := by decide +kernel
set_option maxRecDepth 100000 in
theorem dX12_writeText_168 : decode cX12_writeText 168 = .ok (.ifCond .le 18, 3) := by decide +kernel
set_option maxRecDepth 100000 in
theorem dX12_writeText_171 : decode cX12_writeText 171 = .ok (.aload_n 0, 1) := by decide +kernel
set_option maxRecDepth 100000 in
theorem dX12_writeText_172 : decode cX12_writeText 172 = .ok (.bipush 12, 2) := by decide +kernel
set_option maxRecDepth 100000 in
theorem dX12_writeText_174 : decode cX12_writeText 174 = .ok (.aload_n 0, 1) := by decide +kernel
set_option maxRecDepth 100000 in
theorem dX12_writeText_175 : decode cX12_writeText 175 = .ok (.getfield 82, 3) := by decide +kernel
set_option maxRecDepth 100000 in
theorem dX12_writeText_178 : decode cX12_writeText 178 = .ok (.iload_n 2, 1) := by decide +kernel
set_option maxRecDepth 100000 in
theorem dX12_writeText_179 : decode cX12_writeText 179 = .ok (.iaload, 1) := by decide +kernel
set_option maxRecDepth 100000 in
theorem dX12_writeText_180 : decode cX12_writeText 180 = .ok (.invokevirtual 1142, 3) := by decide +kernel
set_option maxRecDepth 100000 in
theorem dX12_writeText_183 : decode cX12_writeText 183 = .ok (.goto 41, 3) := by decide +kernel
set_option maxRecDepth 100000 in
theorem dX12_writeText_186 : decode cX12_writeText 186 = .ok (.aload_n 0, 1) := by decide +kernel
set_option maxRecDepth 100000 in
theorem dX12_writeText_187 : decode cX12_writeText 187 = .ok (.getfield 85, 3) := by decide +kernel
set_option maxRecDepth 100000 in
theorem dX12_writeText_190 : decode cX12_writeText 190 = .ok (.iload_n 2, 1) := by decide +kernel
set_option maxRecDepth 100000 in
theorem dX12_writeText_191 : decode cX12_writeText 191 = .ok (.iaload, 1) := by decide +kernel
set_option maxRecDepth 100000 in
theorem dX12_writeText_192 : decode cX12_writeText 192 = .ok (.iconst (-1), 1) := by decide +kernel
set_option maxRecDepth 100000 in
theorem dX12_writeText_193 : decode cX12_writeText 193 = .ok (.if_icmp .eq 31, 3) := by decide +kernel
set_option maxRecDepth 100000 in
theorem dX12_writeText_196 : decode cX12_writeText 196 = .ok (.lload 12, 2) := by decide +kernel
set_option maxRecDepth 100000 in
theorem dX12_writeText_198 : decode cX12_writeText 198 = .ok (.lconst 1, 1) := by decide +kernel
set_option maxRecDepth 100000 in
theorem dX12_writeText_199 : decode cX12_writeText 199 = .ok (.lcmp, 1) := by decide +kernel
set_option maxRecDepth 100000 in
theorem dX12_writeText_200 : decode cX12_writeText 200 = .ok (.ifCond .lt 12, 3) := by decide +kernel
set_option maxRecDepth 100000 in
theorem dX12_writeText_203 : decode cX12_writeText 203 = .ok (.lload 12, 2) := by decide +kernel
set_option maxRecDepth 100000 in
theorem dX12_writeText_205 : decode cX12_writeText 205 = .ok (.ldc2_w 1466, 3) := by decide +kernel
set_option maxRecDepth 100000 in
theorem dX12_writeText_208 : decode cX12_writeText 208 = .ok (.lcmp, 1) := by decide +kernel
set_option maxRecDepth 100000 in
theorem dX12_writeText_209 : decode cX12_writeText 209 = .ok (.ifCond .le 15, 3) := by decide +kernel
set_option maxRecDepth 100000 in
theorem dX12_writeText_212 : decode cX12_writeText 212 = .ok (.aload_n 0, 1) := by decide +kernel
set_option maxRecDepth 100000 in
theorem dX12_writeText_213 : decode cX12_writeText 213 = .ok (.bipush 12, 2) := by decide +kernel
set_option maxRecDepth 100000 in
theorem dX12_writeText_215 : decode cX12_writeText 215 = .ok (.aload_n 0, 1) := by decide +kernel
set_option maxRecDepth 100000 in
theorem dX12_writeText_216 : decode cX12_writeText 216 = .ok (.getfield 85, 3) := by decide +kernel
set_option maxRecDepth 100000 in
theorem dX12_writeText_219 : decode cX12_writeText 219 = .ok (.iload_n 2, 1) := by decide +kernel
set_option maxRecDepth 100000 in
theorem dX12_writeText_220 : decode cX12_writeText 220 = .ok (.iaload, 1) := by decide +kernel
set_option maxRecDepth 100000 in
theorem dX12_writeText_221 : decode cX12_writeText 221 = .ok (.invokevirtual 1142, 3) := by decide +kernel
set_option maxRecDepth 100000 in
theorem dX12_writeText_224 : decode cX12_writeText 224 = .ok (.aload_n 0, 1) := by decide +kernel
set_option maxRecDepth 100000 in
theorem dX12_writeText_225 : decode cX12_writeText 225 = .ok (.getfield 1121, 3) := by decide +kernel
set_option maxRecDepth 100000 in
theorem dX12_writeText_228 : decode cX12_writeText 228 = .ok (.ifCond .eq 4, 3) := by decide +kernel
set_option maxRecDepth 100000 in
theorem dX12_writeText_231 : decode cX12_writeText 231 = .ok (.return_, 1) := by decide +kernel
set_option maxRecDepth 100000 in
theorem dX12_writeText_232 : decode cX12_writeText 232 = .ok (.aload_n 0, 1) := by decide +kernel
set_option maxRecDepth 100000 in
theorem dX12_writeText_233 : decode cX12_writeText 233 = .ok (.getfield 96, 3) := by decide +kernel
set_option maxRecDepth 100000 in
theorem dX12_writeText_236 : decode cX12_writeText 236 = .ok (.iload 4, 2) := by decide +kernel
set_option maxRecDepth 100000 in
theorem dX12_writeText_238 : decode cX12_writeText 238 = .ok (.aaload, 1) := by decide +kernel
set_option maxRecDepth 100000 in
theorem dX12_writeText_239 : decode cX12_writeText 239 = .ok (.invokevirtual 867, 3) := by decide +kernel
set_option maxRecDepth 100000 in
theorem dX12_writeText_242 : decode cX12_writeText 242 = .ok (.astore 14, 2) := by decide +kernel
set_option maxRecDepth 100000 in
theorem dX12_writeText_244 : decode cX12_writeText 244 = .ok (.aload 14, 2) := by decide +kernel
set_option maxRecDepth 100000 in
theorem dX12_writeText_246 : decode cX12_writeText 246 = .ok (.invokevirtual 1050, 3) := by decide +kernel
set_option maxRecDepth 100000 in
theorem dX12_writeText_249 : decode cX12_writeText 249 = .ok (.istore 15, 2) := by decide +kernel
set_option maxRecDepth 100000 in
theorem dX12_writeText_251 : decode cX12_writeText 251 = .ok (.aload_n 0, 1) := by decide +kernel
set_option maxRecDepth 100000 in
theorem dX12_writeText_252 : decode cX12_writeText 252 = .ok (.iconst 0, 1) := by decide +kernel
set_option maxRecDepth 100000 in
theorem dX12_writeText_253 : decode cX12_writeText 253 = .ok (.putfield 1468, 3) := by decide +kernel
set_option maxRecDepth 100000 in
theorem dX12_writeText_256 : decode cX12_writeText 256 = .ok (.iload 15, 2) := by decide +kernel
set_option maxRecDepth 100000 in
theorem dX12_writeText_258 : decode cX12_writeText 258 = .ok (.ifCond .le 65, 3) := by decide +kernel
set_option maxRecDepth 100000 in
theorem dX12_writeText_261 : decode cX12_writeText 261 = .ok (.lload 10, 2) := by decide +kernel
set_option maxRecDepth 100000 in
theorem dX12_writeText_263 : decode cX12_writeText 263 = .ok (.ldc2_w 1160, 3) := by decide +kernel
set_option maxRecDepth 100000 in
theorem dX12_writeText_266 : decode cX12_writeText 266 = .ok (.lcmp, 1) := by decide +kernel
set_option maxRecDepth 100000 in
theorem dX12_writeText_267 : decode cX12_writeText 267 = .ok (.ifCond .ne 8, 3) := by decide +kernel
set_option maxRecDepth 100000 in
theorem dX12_writeText_270 : decode cX12_writeText 270 = .ok (.iload 15, 2) := by decide +kernel
set_option maxRecDepth 100000 in
theorem dX12_writeText_272 : decode cX12_writeText 272 = .ok (.goto 6, 3) := by decide +kernel
set_option maxRecDepth 100000 in
theorem dX12_writeText_275 : decode cX12_writeText 275 = .ok (.lload 10, 2) := by decide +kernel
set_option maxRecDepth 100000 in
theorem dX12_writeText_277 : decode cX12_writeText 277 = .ok (.l2i, 1) := by decide +kernel
set_option maxRecDepth 100000 in
theorem dX12_writeText_278 : decode cX12_writeText 278 = .ok (.istore 16, 2) := by decide +kernel
set_option maxRecDepth 100000 in
theorem dX12_writeText_280 : decode cX12_writeText 280 = .ok (.aload_n 0, 1) := by decide +kernel
set_option maxRecDepth 100000 in
theorem dX12_writeText_281 : decode cX12_writeText 281 = .ok (.iload 9, 2) := by decide +kernel
set_option maxRecDepth 100000 in
theorem dX12_writeText_283 : decode cX12_writeText 283 = .ok (.iload 15, 2) := by decide +kernel
set_option maxRecDepth 100000 in
theorem dX12_writeText_285 : decode cX12_writeText 285 = .ok (.iload 16, 2) := by decide +kernel
set_option maxRecDepth 100000 in
theorem dX12_writeText_287 : decode cX12_writeText 287 = .ok (.invokestatic 1098, 3) := by decide +kernel
set_option maxRecDepth 100000 in
theorem dX12_writeText_290 : decode cX12_writeText 290 = .ok (.invokevirtual 1293, 3) := by decide +kernel
set_option maxRecDepth 100000 in
theorem dX12_writeText_293 : decode cX12_writeText 293 = .ok (.ifCond .ne 16, 3) := by decide +kernel
set_option maxRecDepth 100000 in
theorem dX12_writeText_296 : decode cX12_writeText 296 = .ok (.aload_n 0, 1) := by decide +kernel
set_option maxRecDepth 100000 in
theorem dX12_writeText_297 : decode cX12_writeText 297 = .ok (.iconst 5, 1) := by decide +kernel
set_option maxRecDepth 100000 in
theorem dX12_writeText_298 : decode cX12_writeText 298 = .ok (.aload_n 0, 1) := by decide +kernel
set_option maxRecDepth 100000 in
theorem dX12_writeText_299 : decode cX12_writeText 299 = .ok (.getfield 70, 3) := by decide +kernel
set_option maxRecDepth 100000 in
theorem dX12_writeText_302 : decode cX12_writeText 302 = .ok (.iload 4, 2) := by decide +kernel
set_option maxRecDepth 100000 in
theorem dX12_writeText_304 : decode cX12_writeText 304 = .ok (.iaload, 1) := by decide +kernel
set_option maxRecDepth 100000 in
theorem dX12_writeText_305 : decode cX12_writeText 305 = .ok (.invokevirtual 1142, 3) := by decide +kernel
set_option maxRecDepth 100000 in
theorem dX12_writeText_308 : decode cX12_writeText 308 = .ok (.return_, 1) := by decide +kernel
set_option maxRecDepth 100000 in
theorem dX12_writeText_309 : decode cX12_writeText 309 = .ok (.aload_n 0, 1) := by decide +kernel
set_option maxRecDepth 100000 in
theorem dX12_writeText_310 : decode cX12_writeText 310 = .ok (.iload_n 1, 1) := by decide +kernel
set_option maxRecDepth 100000 in
theorem dX12_writeText_311 : decode cX12_writeText 311 = .ok (.iload 9, 2) := by decide +kernel
set_option maxRecDepth 100000 in
theorem dX12_writeText_313 : decode cX12_writeText 313 = .ok (.iload 15, 2) := by decide +kernel
set_option maxRecDepth 100000 in
theorem dX12_writeText_315 : decode cX12_writeText 315 = .ok (.iload 16, 2) := by decide +kernel
set_option maxRecDepth 100000 in
theorem dX12_writeText_317 : decode cX12_writeText 317 = .ok (.iconst 1, 1) := by decide +kernel
set_option maxRecDepth 100000 in
theorem dX12_writeText_318 : decode cX12_writeText 318 = .ok (.iload_n 3, 1) := by decide +kernel
set_option maxRecDepth 100000 in
theorem dX12_writeText_319 : decode cX12_writeText 319 = .ok (.invokevirtual 1471, 3) := by decide +kernel
set_option maxRecDepth 100000 in
theorem dX12_writeText_322 : decode cX12_writeText 322 = .ok (.return_, 1) := by decide +kernel
set_option maxRecDepth 100000 in
theorem dX12_writeText_323 : decode cX12_writeText 323 = .ok (.aload 14, 2) := by decide +kernel
set_option maxRecDepth 100000 in
theorem dX12_writeText_325 : decode cX12_writeText 325 = .ok (.aload_n 0, 1) := by decide +kernel
set_option maxRecDepth 100000 in
theorem dX12_writeText_326 : decode cX12_writeText 326 = .ok (.getfield 113, 3) := by decide +kernel
set_option maxRecDepth 100000 in
theorem dX12_writeText_329 : decode cX12_writeText 329 = .ok (.if_acmp .ne 61, 3) := by decide +kernel
set_option maxRecDepth 100000 in
theorem dX12_writeText_332 : decode cX12_writeText 332 = .ok (.aload_n 0, 1) := by decide +kernel
set_option maxRecDepth 100000 in
theorem dX12_writeText_333 : decode cX12_writeText 333 = .ok (.dload 7, 2) := by decide +kernel
set_option maxRecDepth 100000 in
theorem dX12_writeText_335 : decode cX12_writeText 335 = .ok (.lload 10, 2) := by decide +kernel
set_option maxRecDepth 100000 in
theorem dX12_writeText_337 : decode cX12_writeText 337 = .ok (.ldc2_w 1160, 3) := by decide +kernel
set_option maxRecDepth 100000 in
theorem dX12_writeText_340 : decode cX12_writeText 340 = .ok (.lcmp, 1) := by decide +kernel
set_option maxRecDepth 100000 in
theorem dX12_writeText_341 : decode cX12_writeText 341 = .ok (.ifCond .ne 8, 3) := by decide +kernel
set_option maxRecDepth 100000 in
theorem dX12_writeText_344 : decode cX12_writeText 344 = .ok (.bipush 14, 2) := by decide +kernel
set_option maxRecDepth 100000 in
theorem dX12_writeText_346 : decode cX12_writeText 346 = .ok (.goto 6, 3) := by decide +kernel
set_option maxRecDepth 100000 in
theorem dX12_writeText_349 : decode cX12_writeText 349 = .ok (.lload 10, 2) := by decide +kernel
set_option maxRecDepth 100000 in
theorem dX12_writeText_351 : decode cX12_writeText 351 = .ok (.l2i, 1) := by decide +kernel
set_option maxRecDepth 100000 in
theorem dX12_writeText_352 : decode cX12_writeText 352 = .ok (.lload 12, 2) := by decide +kernel
set_option maxRecDepth 100000 in
theorem dX12_writeText_354 : decode cX12_writeText 354 = .ok (.l2i, 1) := by decide +kernel
set_option maxRecDepth 100000 in
theorem dX12_writeText_355 : decode cX12_writeText 355 = .ok (.invokevirtual 1475, 3) := by decide +kernel
set_option maxRecDepth 100000 in
theorem dX12_writeText_358 : decode cX12_writeText 358 = .ok (.aload_n 0, 1) := by decide +kernel
set_option maxRecDepth 100000 in
theorem dX12_writeText_359 : decode cX12_writeText 359 = .ok (.iload_n 1, 1) := by decide +kernel
set_option maxRecDepth 100000 in
theorem dX12_writeText_360 : decode cX12_writeText 360 = .ok (.iconst (-1), 1) := by decide +kernel
set_option maxRecDepth 100000 in
theorem dX12_writeText_361 : decode cX12_writeText 361 = .ok (.aload_n 0, 1) := by decide +kernel
set_option maxRecDepth 100000 in
theorem dX12_writeText_362 : decode cX12_writeText 362 = .ok (.getfield 1468, 3) := by decide +kernel
set_option maxRecDepth 100000 in
theorem dX12_writeText_365 : decode cX12_writeText 365 = .ok (.lload 10, 2) := by decide +kernel
set_option maxRecDepth 100000 in
theorem dX12_writeText_367 : decode cX12_writeText 367 = .ok (.ldc2_w 1160, 3) := by decide +kernel
set_option maxRecDepth 100000 in
theorem dX12_writeText_370 : decode cX12_writeText 370 = .ok (.lcmp, 1) := by decide +kernel
set_option maxRecDepth 100000 in
theorem dX12_writeText_371 : decode cX12_writeText 371 = .ok (.ifCond .ne 8, 3) := by decide +kernel
set_option maxRecDepth 100000 in
theorem dX12_writeText_374 : decode cX12_writeText 374 = .ok (.bipush 14, 2) := by decide +kernel
set_option maxRecDepth 100000 in
theorem dX12_writeText_376 : decode cX12_writeText 376 = .ok (.goto 6, 3) := by decide +kernel
set_option maxRecDepth 100000 in
theorem dX12_writeText_379 : decode cX12_writeText 379 = .ok (.lload 10, 2) := by decide +kernel
set_option maxRecDepth 100000 in
theorem dX12_writeText_381 : decode cX12_writeText 381 = .ok (.l2i, 1) := by decide +kernel
set_option maxRecDepth 100000 in
theorem dX12_writeText_382 : decode cX12_writeText 382 = .ok (.iconst 0, 1) := by decide +kernel
set_option maxRecDepth 100000 in
theorem dX12_writeText_383 : decode cX12_writeText 383 = .ok (.iload_n 3, 1) := by decide +kernel
set_option maxRecDepth 100000 in
theorem dX12_writeText_384 : decode cX12_writeText 384 = .ok (.invokevirtual 1471, 3) := by decide +kernel
set_option maxRecDepth 100000 in
theorem dX12_writeText_387 : decode cX12_writeText 387 = .ok (.goto 143, 3) := by decide +kernel
set_option maxRecDepth 100000 in
theorem dX12_writeText_390 : decode cX12_writeText 390 = .ok (.aload 14, 2) := by decide +kernel
set_option maxRecDepth 100000 in
theorem dX12_writeText_392 : decode cX12_writeText 392 = .ok (.aload_n 0, 1) := by decide +kernel
set_option maxRecDepth 100000 in
theorem dX12_writeText_393 : decode cX12_writeText 393 = .ok (.getfield 109, 3) := by decide +kernel
set_option maxRecDepth 100000 in
theorem dX12_writeText_396 : decode cX12_writeText 396 = .ok (.if_acmp .ne 41, 3) := by decide +kernel
set_option maxRecDepth 100000 in
theorem dX12_writeText_399 : decode cX12_writeText 399 = .ok (.aload_n 0, 1) := by decide +kernel
set_option maxRecDepth 100000 in
theorem dX12_writeText_400 : decode cX12_writeText 400 = .ok (.lload 5, 2) := by decide +kernel
set_option maxRecDepth 100000 in
theorem dX12_writeText_402 : decode cX12_writeText 402 = .ok (.invokevirtual 1479, 3) := by decide +kernel
set_option maxRecDepth 100000 in
theorem dX12_writeText_405 : decode cX12_writeText 405 = .ok (.aload_n 0, 1) := by decide +kernel
set_option maxRecDepth 100000 in
theorem dX12_writeText_406 : decode cX12_writeText 406 = .ok (.iload_n 1, 1) := by decide +kernel
set_option maxRecDepth 100000 in
theorem dX12_writeText_407 : decode cX12_writeText 407 = .ok (.iconst (-1), 1) := by decide +kernel
set_option maxRecDepth 100000 in
theorem dX12_writeText_408 : decode cX12_writeText 408 = .ok (.aload_n 0, 1) := by decide +kernel
set_option maxRecDepth 100000 in
theorem dX12_writeText_409 : decode cX12_writeText 409 = .ok (.getfield 1468, 3) := by decide +kernel
set_option maxRecDepth 100000 in
theorem dX12_writeText_412 : decode cX12_writeText 412 = .ok (.lload 10, 2) := by decide +kernel
set_option maxRecDepth 100000 in
theorem dX12_writeText_414 : decode cX12_writeText 414 = .ok (.ldc2_w 1160, 3) := by decide +kernel
set_option maxRecDepth 100000 in
theorem dX12_writeText_417 : decode cX12_writeText 417 = .ok (.lcmp, 1) := by decide +kernel
set_option maxRecDepth 100000 in
theorem dX12_writeText_418 : decode cX12_writeText 418 = .ok (.ifCond .ne 8, 3) := by decide +kernel
set_option maxRecDepth 100000 in
theorem dX12_writeText_421 : decode cX12_writeText 421 = .ok (.bipush 8, 2) := by decide +kernel
set_option maxRecDepth 100000 in
theorem dX12_writeText_423 : decode cX12_writeText 423 = .ok (.goto 6, 3) := by decide +kernel
set_option maxRecDepth 100000 in
theorem dX12_writeText_426 : decode cX12_writeText 426 = .ok (.lload 10, 2) := by decide +kernel
set_option maxRecDepth 100000 in
theorem dX12_writeText_428 : decode cX12_writeText 428 = .ok (.l2i, 1) := by decide +kernel
set_option maxRecDepth 100000 in
theorem dX12_writeText_429 : decode cX12_writeText 429 = .ok (.iconst 0, 1) := by decide +kernel
set_option maxRecDepth 100000 in
theorem dX12_writeText_430 : decode cX12_writeText 430 = .ok (.iload_n 3, 1) := by decide +kernel
set_option maxRecDepth 100000 in
theorem dX12_writeText_431 : decode cX12_writeText 431 = .ok (.invokevirtual 1471, 3) := by decide +kernel
set_option maxRecDepth 100000 in
theorem dX12_writeText_434 : decode cX12_writeText 434 = .ok (.goto 96, 3) := by decide +kernel
set_option maxRecDepth 100000 in
theorem dX12_writeText_437 : decode cX12_writeText 437 = .ok (.aload 14, 2) := by decide +kernel
set_option maxRecDepth 100000 in
theorem dX12_writeText_439 : decode cX12_writeText 439 = .ok (.aload_n 0, 1) := by decide +kernel
set_option maxRecDepth 100000 in
theorem dX12_writeText_440 : decode cX12_writeText 440 = .ok (.getfield 116, 3) := by decide +kernel
set_option maxRecDepth 100000 in
theorem dX12_writeText_443 : decode cX12_writeText 443 = .ok (.if_acmp .ne 55, 3) := by decide +kernel
set_option maxRecDepth 100000 in
theorem dX12_writeText_446 : decode cX12_writeText 446 = .ok (.aload_n 0, 1) := by decide +kernel
set_option maxRecDepth 100000 in
theorem dX12_writeText_447 : decode cX12_writeText 447 = .ok (.lload 5, 2) := by decide +kernel
set_option maxRecDepth 100000 in
theorem dX12_writeText_449 : decode cX12_writeText 449 = .ok (.lconst 1, 1) := by decide +kernel
set_option maxRecDepth 100000 in
theorem dX12_writeText_450 : decode cX12_writeText 450 = .ok (.lcmp, 1) := by decide +kernel
set_option maxRecDepth 100000 in
theorem dX12_writeText_451 : decode cX12_writeText 451 = .ok (.ifCond .ne 9, 3) := by decide +kernel
set_option maxRecDepth 100000 in
theorem dX12_writeText_454 : decode cX12_writeText 454 = .ok (.ldc_w 622, 3) := by decide +kernel
set_option maxRecDepth 100000 in
theorem dX12_writeText_457 : decode cX12_writeText 457 = .ok (.goto 6, 3) := by decide +kernel
set_option maxRecDepth 100000 in
theorem dX12_writeText_460 : decode cX12_writeText 460 = .ok (.ldc_w 620, 3) := by decide +kernel
set_option maxRecDepth 100000 in
theorem dX12_writeText_463 : decode cX12_writeText 463 = .ok (.invokevirtual 1483, 3) := by decide +kernel
set_option maxRecDepth 100000 in
theorem dX12_writeText_466 : decode cX12_writeText 466 = .ok (.aload_n 0, 1) := by decide +kernel
set_option maxRecDepth 100000 in
theorem dX12_writeText_467 : decode cX12_writeText 467 = .ok (.iload_n 1, 1) := by decide +kernel
set_option maxRecDepth 100000 in
theorem dX12_writeText_468 : decode cX12_writeText 468 = .ok (.iconst (-1), 1) := by decide +kernel
set_option maxRecDepth 100000 in
theorem dX12_writeText_469 : decode cX12_writeText 469 = .ok (.aload_n 0, 1) := by decide +kernel
set_option maxRecDepth 100000 in
theorem dX12_writeText_470 : decode cX12_writeText 470 = .ok (.getfield 1468, 3) := by decide +kernel
set_option maxRecDepth 100000 in
theorem dX12_writeText_473 : decode cX12_writeText 473 = .ok (.lload 10, 2) := by decide +kernel
set_option maxRecDepth 100000 in
theorem dX12_writeText_475 : decode cX12_writeText 475 = .ok (.ldc2_w 1160, 3) := by decide +kernel
set_option maxRecDepth 100000 in
theorem dX12_writeText_478 : decode cX12_writeText 478 = .ok (.lcmp, 1) := by decide +kernel
set_option maxRecDepth 100000 in
theorem dX12_writeText_479 : decode cX12_writeText 479 = .ok (.ifCond .ne 8, 3) := by decide +kernel
set_option maxRecDepth 100000 in
theorem dX12_writeText_482 : decode cX12_writeText 482 = .ok (.bipush 6, 2) := by decide +kernel
set_option maxRecDepth 100000 in
theorem dX12_writeText_484 : decode cX12_writeText 484 = .ok (.goto 6, 3) := by decide +kernel
set_option maxRecDepth 100000 in
theorem dX12_writeText_487 : decode cX12_writeText 487 = .ok (.lload 10, 2) := by decide +kernel
set_option maxRecDepth 100000 in
theorem dX12_writeText_489 : decode cX12_writeText 489 = .ok (.l2i, 1) := by decide +kernel
set_option maxRecDepth 100000 in
theorem dX12_writeText_490 : decode cX12_writeText 490 = .ok (.iconst 1, 1) := by decide +kernel
set_option maxRecDepth 100000 in
theorem dX12_writeText_491 : decode cX12_writeText 491 = .ok (.iload_n 3, 1) := by decide +kernel
set_option maxRecDepth 100000 in
theorem dX12_writeText_492 : decode cX12_writeText 492 = .ok (.invokevirtual 1471, 3) := by decide +kernel
set_option maxRecDepth 100000 in
theorem dX12_writeText_495 : decode cX12_writeText 495 = .ok (.goto 35, 3) := by decide +kernel
set_option maxRecDepth 100000 in
theorem dX12_writeText_498 : decode cX12_writeText 498 = .ok (.aload_n 0, 1) := by decide +kernel
set_option maxRecDepth 100000 in
theorem dX12_writeText_499 : decode cX12_writeText 499 = .ok (.lload 5, 2) := by decide +kernel
set_option maxRecDepth 100000 in
theorem dX12_writeText_501 : decode cX12_writeText 501 = .ok (.l2i, 1) := by decide +kernel
set_option maxRecDepth 100000 in
theorem dX12_writeText_502 : decode cX12_writeText 502 = .ok (.invokevirtual 1487, 3) := by decide +kernel
set_option maxRecDepth 100000 in
theorem dX12_writeText_505 : decode cX12_writeText 505 = .ok (.aload_n 0, 1) := by decide +kernel
set_option maxRecDepth 100000 in
theorem dX12_writeText_506 : decode cX12_writeText 506 = .ok (.iload_n 1, 1) := by decide +kernel
set_option maxRecDepth 100000 in
theorem dX12_writeText_507 : decode cX12_writeText 507 = .ok (.iconst (-1), 1) := by decide +kernel
set_option maxRecDepth 100000 in
theorem dX12_writeText_508 : decode cX12_writeText 508 = .ok (.iconst 1, 1) := by decide +kernel
set_option maxRecDepth 100000 in
theorem dX12_writeText_509 : decode cX12_writeText 509 = .ok (.lload 10, 2) := by decide +kernel
set_option maxRecDepth 100000 in
theorem dX12_writeText_511 : decode cX12_writeText 511 = .ok (.ldc2_w 1160, 3) := by decide +kernel
set_option maxRecDepth 100000 in
theorem dX12_writeText_514 : decode cX12_writeText 514 = .ok (.lcmp, 1) := by decide +kernel
set_option maxRecDepth 100000 in
theorem dX12_writeText_515 : decode cX12_writeText 515 = .ok (.ifCond .ne 7, 3) := by decide +kernel
set_option maxRecDepth 100000 in
theorem dX12_writeText_518 : decode cX12_writeText 518 = .ok (.iconst 1, 1) := by decide +kernel
set_option maxRecDepth 100000 in
theorem dX12_writeText_519 : decode cX12_writeText 519 = .ok (.goto 6, 3) := by decide +kernel
set_option maxRecDepth 100000 in
theorem dX12_writeText_522 : decode cX12_writeText 522 = .ok (.lload 10, 2) := by decide +kernel
set_option maxRecDepth 100000 in
theorem dX12_writeText_524 : decode cX12_writeText 524 = .ok (.l2i, 1) := by decide +kernel
set_option maxRecDepth 100000 in
theorem dX12_writeText_525 : decode cX12_writeText 525 = .ok (.iconst 0, 1) := by decide +kernel
set_option maxRecDepth 100000 in
theorem dX12_writeText_526 : decode cX12_writeText 526 = .ok (.iload_n 3, 1) := by decide +kernel
set_option maxRecDepth 100000 in
theorem dX12_writeText_527 : decode cX12_writeText 527 = .ok (.invokevirtual 1471, 3) := by decide +kernel
set_option maxRecDepth 100000 in
theorem dX12_writeText_530 : decode cX12_writeText 530 = .ok (.return_, 1) := by decide +kernel
set_option maxRecDepth 100000 in
def bX12_writeText_530 (G : xG) (fr lo : Nat) (h : xH) (Q : Outcome → xH → Prop) : Prop := Q (.returned none) h
set_option maxRecDepth 100000 in
theorem uX12_writeText_530 {G : xG} {fr lo : Nat} {h : xH} {Q : Outcome → xH → Prop} (hq : bX12_writeText_530 G fr lo h Q) : xP G YX12_writeText fr lo 530 [] [] h Q := by
  unfold bX12_writeText_530 at hq
  exact x_vret rfl dX12_writeText_530 hq
set_option maxRecDepth 100000 in
def bX12_writeText_525 (G : xG) (fr lo : Nat) (x3 : Int32) (s0 : Int32) (s1 : Int32) (s2 : Int32) (s3 : Int32) (s4 : Nat) (h : xH) (Q : Outcome → xH → Prop) : Prop := tg h s4 = 13 ∧ 1 ≤ fr ∧ 21 ≤ lo ∧ xRv G YX12_layOut (fr - 1) (lo - 21) [rv s4, .int s3, .int s2, .int s1, .int s0, .int 0, .int x3] h (fun h4 => xext h h4 → bX12_writeText_530 G fr lo h4 Q) (fun r h2 => Q (.threw r) h2)
set_option maxRecDepth 100000 in
theorem uX12_writeText_525 {G : xG} {fr lo : Nat} {x3 : Int32} {s0 : Int32} {s1 : Int32} {s2 : Int32} {s3 : Int32} {s4 : Nat} {h : xH} {Q : Outcome → xH → Prop} (hq : bX12_writeText_525 G fr lo x3 s0 s1 s2 s3 s4 h Q) : xP G YX12_writeText fr lo 525 [(3, .int x3)] [.int s0, .int s1, .int s2, .int s3, rv s4] h Q := by
  unfold bX12_writeText_525 at hq
  refine x_iconst (v := 0) dX12_writeText_525 (by decide) ?_
  refine x_iload_n 0 dX12_writeText_526 rfl ?_
  obtain ⟨g1, hq⟩ := hq
  obtain ⟨g2, g3, hq⟩ := hq
  refine x_callV (Yc := YX12_layOut) (as := [.int s3, .int s2, .int s1, .int s0, .int 0, .int x3]) (st := []) q4766 mvX12_layOut g1 rfl dX12_writeText_527 (xle (xal1 (rv_cat _) (xal1 rfl (xal1 rfl (xal1 rfl (xal1 rfl (xal1 rfl (xal1 rfl xal0))))))) (by decide)) (xfr g2) (xlo xsw0 (by decide) g3) (xKv hq (fun h4 hq e6 => ?_) (fun _ _ q _ => q))
  replace hq := hq e6
  refine xP.pick (lv' := []) [] rfl ?_
  exact uX12_writeText_530 hq
set_option maxRecDepth 100000 in
def bX12_writeText_490 (G : xG) (fr lo : Nat) (x3 : Int32) (s0 : Int32) (s1 : Int32) (s2 : Int32) (s3 : Int32) (s4 : Nat) (h : xH) (Q : Outcome → xH → Prop) : Prop := tg h s4 = 13 ∧ 1 ≤ fr ∧ 21 ≤ lo ∧ xRv G YX12_layOut (fr - 1) (lo - 21) [rv s4, .int s3, .int s2, .int s1, .int s0, .int 1, .int x3] h (fun h4 => xext h h4 → bX12_writeText_530 G fr lo h4 Q) (fun r h2 => Q (.threw r) h2)
set_option maxRecDepth 100000 in
theorem uX12_writeText_490 {G : xG} {fr lo : Nat} {x3 : Int32} {s0 : Int32} {s1 : Int32} {s2 : Int32} {s3 : Int32} {s4 : Nat} {h : xH} {Q : Outcome → xH → Prop} (hq : bX12_writeText_490 G fr lo x3 s0 s1 s2 s3 s4 h Q) : xP G YX12_writeText fr lo 490 [(3, .int x3)] [.int s0, .int s1, .int s2, .int s3, rv s4] h Q := by
  unfold bX12_writeText_490 at hq
  refine x_iconst (v := 1) dX12_writeText_490 (by decide) ?_
  refine x_iload_n 0 dX12_writeText_491 rfl ?_
  obtain ⟨g1, hq⟩ := hq
  obtain ⟨g2, g3, hq⟩ := hq
  refine x_callV (Yc := YX12_layOut) (as := [.int s3, .int s2, .int s1, .int s0, .int 1, .int x3]) (st := []) q4766 mvX12_layOut g1 rfl dX12_writeText_492 (xle (xal1 (rv_cat _) (xal1 rfl (xal1 rfl (xal1 rfl (xal1 rfl (xal1 rfl (xal1 rfl xal0))))))) (by decide)) (xfr g2) (xlo xsw0 (by decide) g3) (xKv hq (fun h4 hq e6 => ?_) (fun _ _ q _ => q))
  replace hq := hq e6
  refine x_goto (tgt := 530) dX12_writeText_495 (by decide) ?_
  refine xP.pick (lv' := []) [] rfl ?_
  exact uX12_writeText_530 hq
set_option maxRecDepth 100000 in
def bX12_writeText_463 (G : xG) (fr lo : Nat) (x0 : Nat) (x1 : Int32) (x3 : Int32) (x10 : Int64) (s0 : Nat) (s1 : Nat) (h : xH) (Q : Outcome → xH → Prop) : Prop := tg h s1 = 13 ∧ 1 ≤ fr ∧ 14 ≤ lo ∧ xRv G YX12_spellWord (fr - 1) (lo - 14) [rv s1, rv s0] h (fun h4 => xext h h4 → tg h4 x0 = 13 ∧ ((¬ (lg_cmp x10 (-1)) = 0 → bX12_writeText_490 G fr lo x3 (Int64.toInt32 x10) (fI h4 x0 3200) (-1) x1 x0 h4 Q) ∧ ((lg_cmp x10 (-1)) = 0 → bX12_writeText_490 G fr lo x3 6 (fI h4 x0 3200) (-1) x1 x0 h4 Q))) (fun r h2 => Q (.threw r) h2)
set_option maxRecDepth 100000 in
theorem uX12_writeText_463 {G : xG} {fr lo : Nat} {x0 : Nat} {x1 : Int32} {x3 : Int32} {x10 : Int64} {s0 : Nat} {s1 : Nat} {h : xH} {Q : Outcome → xH → Prop} (hq : bX12_writeText_463 G fr lo x0 x1 x3 x10 s0 s1 h Q) : xP G YX12_writeText fr lo 463 [(0, rv x0), (1, .int x1), (3, .int x3), (10, .long x10)] [rv s0, rv s1] h Q := by
  unfold bX12_writeText_463 at hq
  obtain ⟨g1, hq⟩ := hq
  obtain ⟨g2, g3, hq⟩ := hq
  refine x_callV (Yc := YX12_spellWord) (as := [rv s0]) (st := []) q4791 mvX12_spellWord g1 rfl dX12_writeText_463 (xle (xal1 (rv_cat _) (xal1 (rv_cat _) xal0)) (by decide)) (xfr g2) (xlo xsw0 (by decide) g3) (xKv hq (fun h4 hq e6 => ?_) (fun _ _ q _ => q))
  replace hq := hq e6
  refine x_aload_n 0 dX12_writeText_466 rfl ?_
  refine x_iload_n 1 dX12_writeText_467 rfl ?_
  refine x_iconst (v := (-1)) dX12_writeText_468 (by decide) ?_
  refine x_aload_n 0 dX12_writeText_469 rfl ?_
  obtain ⟨g7, hq⟩ := hq
  refine x_get (v := .int (fI h4 x0 3200)) fdX12_1468 dX12_writeText_470 g7 rfl ?_
  refine x_lload 3 dX12_writeText_473 rfl ?_
  refine x_ldc2 (v := (-1)) q4606 dX12_writeText_475 ?_
  refine x_lcmp dX12_writeText_478 ?_
  refine x_if_ne (tgt := 487) dX12_writeText_479 (by decide) (fun c8 => ?_) (fun c8 => ?_)
  · replace hq := hq.1 c8
    refine x_lload 3 dX12_writeText_487 rfl ?_
    refine x_l2i dX12_writeText_489 ?_
    refine xP.pick (lv' := [(3, .int x3)]) [2] rfl ?_
    exact uX12_writeText_490 hq
  · replace hq := hq.2 c8
    refine x_bipush (v := 6) dX12_writeText_482 (by decide) ?_
    refine x_goto (tgt := 490) dX12_writeText_484 (by decide) ?_
    refine xP.pick (lv' := [(3, .int x3)]) [2] rfl ?_
    exact uX12_writeText_490 hq
set_option maxRecDepth 100000 in
def bX12_writeText_429 (G : xG) (fr lo : Nat) (x3 : Int32) (s0 : Int32) (s1 : Int32) (s2 : Int32) (s3 : Int32) (s4 : Nat) (h : xH) (Q : Outcome → xH → Prop) : Prop := tg h s4 = 13 ∧ 1 ≤ fr ∧ 21 ≤ lo ∧ xRv G YX12_layOut (fr - 1) (lo - 21) [rv s4, .int s3, .int s2, .int s1, .int s0, .int 0, .int x3] h (fun h4 => xext h h4 → bX12_writeText_530 G fr lo h4 Q) (fun r h2 => Q (.threw r) h2)
set_option maxRecDepth 100000 in
theorem uX12_writeText_429 {G : xG} {fr lo : Nat} {x3 : Int32} {s0 : Int32} {s1 : Int32} {s2 : Int32} {s3 : Int32} {s4 : Nat} {h : xH} {Q : Outcome → xH → Prop} (hq : bX12_writeText_429 G fr lo x3 s0 s1 s2 s3 s4 h Q) : xP G YX12_writeText fr lo 429 [(3, .int x3)] [.int s0, .int s1, .int s2, .int s3, rv s4] h Q := by
  unfold bX12_writeText_429 at hq
  refine x_iconst (v := 0) dX12_writeText_429 (by decide) ?_
  refine x_iload_n 0 dX12_writeText_430 rfl ?_
  obtain ⟨g1, hq⟩ := hq
  obtain ⟨g2, g3, hq⟩ := hq
  refine x_callV (Yc := YX12_layOut) (as := [.int s3, .int s2, .int s1, .int s0, .int 0, .int x3]) (st := []) q4766 mvX12_layOut g1 rfl dX12_writeText_431 (xle (xal1 (rv_cat _) (xal1 rfl (xal1 rfl (xal1 rfl (xal1 rfl (xal1 rfl (xal1 rfl xal0))))))) (by decide)) (xfr g2) (xlo xsw0 (by decide) g3) (xKv hq (fun h4 hq e6 => ?_) (fun _ _ q _ => q))
  replace hq := hq e6
  refine x_goto (tgt := 530) dX12_writeText_434 (by decide) ?_
  refine xP.pick (lv' := []) [] rfl ?_
  exact uX12_writeText_530 hq
set_option maxRecDepth 100000 in
def bX12_writeText_382 (G : xG) (fr lo : Nat) (x3 : Int32) (s0 : Int32) (s1 : Int32) (s2 : Int32) (s3 : Int32) (s4 : Nat) (h : xH) (Q : Outcome → xH → Prop) : Prop := tg h s4 = 13 ∧ 1 ≤ fr ∧ 21 ≤ lo ∧ xRv G YX12_layOut (fr - 1) (lo - 21) [rv s4, .int s3, .int s2, .int s1, .int s0, .int 0, .int x3] h (fun h4 => xext h h4 → bX12_writeText_530 G fr lo h4 Q) (fun r h2 => Q (.threw r) h2)
set_option maxRecDepth 100000 in
theorem uX12_writeText_382 {G : xG} {fr lo : Nat} {x3 : Int32} {s0 : Int32} {s1 : Int32} {s2 : Int32} {s3 : Int32} {s4 : Nat} {h : xH} {Q : Outcome → xH → Prop} (hq : bX12_writeText_382 G fr lo x3 s0 s1 s2 s3 s4 h Q) : xP G YX12_writeText fr lo 382 [(3, .int x3)] [.int s0, .int s1, .int s2, .int s3, rv s4] h Q := by
  unfold bX12_writeText_382 at hq
  refine x_iconst (v := 0) dX12_writeText_382 (by decide) ?_
  refine x_iload_n 0 dX12_writeText_383 rfl ?_
  obtain ⟨g1, hq⟩ := hq
  obtain ⟨g2, g3, hq⟩ := hq
  refine x_callV (Yc := YX12_layOut) (as := [.int s3, .int s2, .int s1, .int s0, .int 0, .int x3]) (st := []) q4766 mvX12_layOut g1 rfl dX12_writeText_384 (xle (xal1 (rv_cat _) (xal1 rfl (xal1 rfl (xal1 rfl (xal1 rfl (xal1 rfl (xal1 rfl xal0))))))) (by decide)) (xfr g2) (xlo xsw0 (by decide) g3) (xKv hq (fun h4 hq e6 => ?_) (fun _ _ q _ => q))
  replace hq := hq e6
  refine x_goto (tgt := 530) dX12_writeText_387 (by decide) ?_
  refine xP.pick (lv' := []) [] rfl ?_
  exact uX12_writeText_530 hq
set_option maxRecDepth 100000 in
def bX12_writeText_352 (G : xG) (fr lo : Nat) (x0 : Nat) (x1 : Int32) (x3 : Int32) (x10 : Int64) (x12 : Int64) (s0 : Int32) (s1 : UInt64) (s2 : Nat) (h : xH) (Q : Outcome → xH → Prop) : Prop := tg h s2 = 13 ∧ 1 ≤ fr ∧ 26 ≤ lo ∧ xRv G YX12_spellReal (fr - 1) (lo - 26) [rv s2, .double s1, .int s0, .int (Int64.toInt32 x12)] h (fun h4 => xext h h4 → tg h4 x0 = 13 ∧ ((¬ (lg_cmp x10 (-1)) = 0 → bX12_writeText_382 G fr lo x3 (Int64.toInt32 x10) (fI h4 x0 3200) (-1) x1 x0 h4 Q) ∧ ((lg_cmp x10 (-1)) = 0 → bX12_writeText_382 G fr lo x3 14 (fI h4 x0 3200) (-1) x1 x0 h4 Q))) (fun r h2 => Q (.threw r) h2)
set_option maxRecDepth 100000 in
theorem uX12_writeText_352 {G : xG} {fr lo : Nat} {x0 : Nat} {x1 : Int32} {x3 : Int32} {x10 : Int64} {x12 : Int64} {s0 : Int32} {s1 : UInt64} {s2 : Nat} {h : xH} {Q : Outcome → xH → Prop} (hq : bX12_writeText_352 G fr lo x0 x1 x3 x10 x12 s0 s1 s2 h Q) : xP G YX12_writeText fr lo 352 [(0, rv x0), (1, .int x1), (3, .int x3), (10, .long x10), (12, .long x12)] [.int s0, .double s1, rv s2] h Q := by
  unfold bX12_writeText_352 at hq
  refine x_lload 4 dX12_writeText_352 rfl ?_
  refine x_l2i dX12_writeText_354 ?_
  obtain ⟨g1, hq⟩ := hq
  obtain ⟨g2, g3, hq⟩ := hq
  refine x_callV (Yc := YX12_spellReal) (as := [.double s1, .int s0, .int (Int64.toInt32 x12)]) (st := []) q4774 mvX12_spellReal g1 rfl dX12_writeText_355 (xle (xal1 (rv_cat _) (xal2 rfl (xal1 rfl (xal1 rfl xal0)))) (by decide)) (xfr g2) (xlo xsw0 (by decide) g3) (xKv hq (fun h4 hq e6 => ?_) (fun _ _ q _ => q))
  replace hq := hq e6
  refine x_aload_n 0 dX12_writeText_358 rfl ?_
  refine x_iload_n 1 dX12_writeText_359 rfl ?_
  refine x_iconst (v := (-1)) dX12_writeText_360 (by decide) ?_
  refine x_aload_n 0 dX12_writeText_361 rfl ?_
  obtain ⟨g7, hq⟩ := hq
  refine x_get (v := .int (fI h4 x0 3200)) fdX12_1468 dX12_writeText_362 g7 rfl ?_
  refine x_lload 3 dX12_writeText_365 rfl ?_
  refine x_ldc2 (v := (-1)) q4606 dX12_writeText_367 ?_
  refine x_lcmp dX12_writeText_370 ?_
  refine x_if_ne (tgt := 379) dX12_writeText_371 (by decide) (fun c8 => ?_) (fun c8 => ?_)
  · replace hq := hq.1 c8
    refine x_lload 3 dX12_writeText_379 rfl ?_
    refine x_l2i dX12_writeText_381 ?_
    refine xP.pick (lv' := [(3, .int x3)]) [2] rfl ?_
    exact uX12_writeText_382 hq
  · replace hq := hq.2 c8
    refine x_bipush (v := 14) dX12_writeText_374 (by decide) ?_
    refine x_goto (tgt := 382) dX12_writeText_376 (by decide) ?_
    refine xP.pick (lv' := [(3, .int x3)]) [2] rfl ?_
    exact uX12_writeText_382 hq
set_option maxRecDepth 100000 in
def bX12_writeText_278 (G : xG) (fr lo : Nat) (x0 : Nat) (x1 : Int32) (x3 : Int32) (x4 : Int32) (x9 : Int32) (x15 : Int32) (s0 : Int32) (h : xH) (Q : Outcome → xH → Prop) : Prop := 1 ≤ fr ∧ 15 ≤ lo ∧ xRi G YJ10_min (fr - 1) (lo - 15) [.int x15, .int s0] h (fun x4 h3 => xext h h3 → tg h3 x0 = 13 ∧ 1 ≤ fr ∧ 16 ≤ lo ∧ xRi G YX12_isWhole (fr - 1) (lo - 16) [rv x0, .int x9, .int x4] h3 (fun x10 h9 => xext h3 h9 → ((¬ x10 = 0 → 1 ≤ fr ∧ 21 ≤ lo ∧ xRv G YX12_layOut (fr - 1) (lo - 21) [rv x0, .int x1, .int x9, .int x15, .int s0, .int 1, .int x3] h9 (fun h16 => xext h9 h16 → Q (.returned none) h16) (fun r h2 => Q (.threw r) h2)) ∧ (x10 = 0 → tg h9 (fR h9 x0 3102) = 100 ∧ vp_in x4 (ln h9 (fR h9 x0 3102)) ∧ 1 ≤ fr ∧ 14 ≤ lo ∧ xRv G YX12_error (fr - 1) (lo - 14) [rv x0, .int 5, .int (aI h9 (fR h9 x0 3102) (Int32.toNatClampNeg x4))] h9 (fun h24 => xext h9 h24 → Q (.returned none) h24) (fun r h2 => Q (.threw r) h2)))) (fun r h2 => Q (.threw r) h2)) (fun r h2 => Q (.threw r) h2)
set_option maxRecDepth 100000 in
theorem uX12_writeText_278 {G : xG} {fr lo : Nat} {x0 : Nat} {x1 : Int32} {x3 : Int32} {x4 : Int32} {x9 : Int32} {x15 : Int32} {s0 : Int32} {h : xH} {Q : Outcome → xH → Prop} (hq : bX12_writeText_278 G fr lo x0 x1 x3 x4 x9 x15 s0 h Q) : xP G YX12_writeText fr lo 278 [(0, rv x0), (1, .int x1), (3, .int x3), (4, .int x4), (9, .int x9), (15, .int x15)] [.int s0] h Q := by
  unfold bX12_writeText_278 at hq
  refine x_istore (lv' := [(16, .int s0), (0, rv x0), (1, .int x1), (3, .int x3), (4, .int x4), (9, .int x9), (15, .int x15)]) dX12_writeText_278 (by decide) rfl ?_
  refine x_aload_n 1 dX12_writeText_280 rfl ?_
  refine x_iload 5 dX12_writeText_281 rfl ?_
  refine x_iload 6 dX12_writeText_283 rfl ?_
  refine x_iload 0 dX12_writeText_285 rfl ?_
  obtain ⟨g1, g2, hq⟩ := hq
  refine x_callS (Yc := YJ10_min) (as := [.int x15, .int s0]) (st := [.int x9, rv x0]) q3662 msJ10_min rfl dX12_writeText_287 (xle (xal1 rfl (xal1 rfl xal0)) (by decide)) (xfr g1) (xlo (xsw1 rfl (xsw1 (rv_cat _) xsw0)) (by decide) g2) (xKi hq (fun x4 h3 hq e5 => ?_) (fun _ _ q _ => q))
  replace hq := hq e5
  obtain ⟨g6, hq⟩ := hq
  obtain ⟨g7, g8, hq⟩ := hq
  refine x_callV (Yc := YX12_isWhole) (as := [.int x9, .int x4]) (st := []) q4682 mvX12_isWhole g6 rfl dX12_writeText_290 (xle (xal1 (rv_cat _) (xal1 rfl (xal1 rfl xal0))) (by decide)) (xfr g7) (xlo xsw0 (by decide) g8) (xKi hq (fun x10 h9 hq e11 => ?_) (fun _ _ q _ => q))
  replace hq := hq e11
  refine x_if_ne (tgt := 309) dX12_writeText_293 (by decide) (fun c12 => ?_) (fun c12 => ?_)
  · replace hq := hq.1 c12
    refine x_aload_n 1 dX12_writeText_309 rfl ?_
    refine x_iload_n 2 dX12_writeText_310 rfl ?_
    refine x_iload 5 dX12_writeText_311 rfl ?_
    refine x_iload 6 dX12_writeText_313 rfl ?_
    refine x_iload 0 dX12_writeText_315 rfl ?_
    refine x_iconst (v := 1) dX12_writeText_317 (by decide) ?_
    refine x_iload_n 3 dX12_writeText_318 rfl ?_
    have t13 : tg h9 x0 = 13 := e11.tg g6 (by decide)
    obtain ⟨g14, g15, hq⟩ := hq
    refine x_callV (Yc := YX12_layOut) (as := [.int x1, .int x9, .int x15, .int s0, .int 1, .int x3]) (st := []) q4766 mvX12_layOut t13 rfl dX12_writeText_319 (xle (xal1 (rv_cat _) (xal1 rfl (xal1 rfl (xal1 rfl (xal1 rfl (xal1 rfl (xal1 rfl xal0))))))) (by decide)) (xfr g14) (xlo xsw0 (by decide) g15) (xKv hq (fun h16 hq e18 => ?_) (fun _ _ q _ => q))
    replace hq := hq e18
    exact x_vret rfl dX12_writeText_322 hq
  · replace hq := hq.2 c12
    refine x_aload_n 1 dX12_writeText_296 rfl ?_
    refine x_iconst (v := 5) dX12_writeText_297 (by decide) ?_
    refine x_aload_n 1 dX12_writeText_298 rfl ?_
    have t19 : tg h9 x0 = 13 := e11.tg g6 (by decide)
    refine x_get (v := rv (fR h9 x0 3102)) fdX12_70 dX12_writeText_299 t19 rfl ?_
    refine x_iload 4 dX12_writeText_302 rfl ?_
    obtain ⟨g20, hq⟩ := hq
    obtain ⟨i21, hq⟩ := hq
    refine x_iald 0 (Or.inl rfl) g20 i21 dX12_writeText_304 ?_
    obtain ⟨g22, g23, hq⟩ := hq
    refine x_callV (Yc := YX12_error) (as := [.int 5, .int (aI h9 (fR h9 x0 3102) (Int32.toNatClampNeg x4))]) (st := []) q4490 mvX12_error t19 rfl dX12_writeText_305 (xle (xal1 (rv_cat _) (xal1 rfl (xal1 rfl xal0))) (by decide)) (xfr g22) (xlo xsw0 (by decide) g23) (xKv hq (fun h24 hq e26 => ?_) (fun _ _ q _ => q))
    replace hq := hq e26
    exact x_vret rfl dX12_writeText_308 hq
set_option maxRecDepth 100000 in
def bX12_writeText_224 (G : xG) (fr lo : Nat) (x0 : Nat) (x1 : Int32) (x3 : Int32) (x4 : Int32) (x5 : Int64) (x7 : UInt64) (x9 : Int32) (x10 : Int64) (x12 : Int64) (h : xH) (Q : Outcome → xH → Prop) : Prop := tg h x0 = 13 ∧ (((fI h x0 3170) = 0 → tg h (fR h x0 3113) = 108 ∧ vp_in x4 (ln h (fR h x0 3113)) ∧ tg h (aR h (fR h x0 3113) (Int32.toNatClampNeg x4)) = 14 ∧ 1 ≤ fr ∧ 12 ≤ lo ∧ xRr G YX13_own (fr - 1) (lo - 12) [rv (aR h (fR h x0 3113) (Int32.toNatClampNeg x4))] h (fun x9 h8 => xext h h8 → tg h8 x9 = 14 ∧ 1 ≤ fr ∧ 13 ≤ lo ∧ xRi G YX13_characters (fr - 1) (lo - 13) [rv x9] h8 (fun x15 h14 => xext h8 h14 → (∀ h19 : xH, h19 = sI h14 x0 3200 0 → ((x15 ≤ 0 → ((¬ x9 = (fR h19 x0 3116) → ((¬ x9 = (fR h19 x0 3115) → ((¬ x9 = (fR h19 x0 3117) → 1 ≤ fr ∧ 13 ≤ lo ∧ xRv G YX12_say (fr - 1) (lo - 13) [rv x0, .int (Int64.toInt32 x5)] h19 (fun h28 => xext h19 h28 → ((¬ (lg_cmp x10 (-1)) = 0 → bX12_writeText_525 G fr lo x3 (Int64.toInt32 x10) 1 (-1) x1 x0 h28 Q) ∧ ((lg_cmp x10 (-1)) = 0 → bX12_writeText_525 G fr lo x3 1 1 (-1) x1 x0 h28 Q))) (fun r h2 => Q (.threw r) h2)) ∧ (x9 = (fR h19 x0 3117) → ((¬ (lg_cmp x5 1) = 0 → bX12_writeText_463 G fr lo x0 x1 x3 x10 (tx G 40) x0 h19 Q) ∧ ((lg_cmp x5 1) = 0 → bX12_writeText_463 G fr lo x0 x1 x3 x10 (tx G 41) x0 h19 Q))))) ∧ (x9 = (fR h19 x0 3115) → 1 ≤ fr ∧ 14 ≤ lo ∧ xRv G YX12_spellWhole (fr - 1) (lo - 14) [rv x0, .long x5] h19 (fun h35 => xext h19 h35 → ((¬ (lg_cmp x10 (-1)) = 0 → bX12_writeText_429 G fr lo x3 (Int64.toInt32 x10) (fI h35 x0 3200) (-1) x1 x0 h35 Q) ∧ ((lg_cmp x10 (-1)) = 0 → bX12_writeText_429 G fr lo x3 8 (fI h35 x0 3200) (-1) x1 x0 h35 Q))) (fun r h2 => Q (.threw r) h2)))) ∧ (x9 = (fR h19 x0 3116) → ((¬ (lg_cmp x10 (-1)) = 0 → bX12_writeText_352 G fr lo x0 x1 x3 x10 x12 (Int64.toInt32 x10) x7 x0 h19 Q) ∧ ((lg_cmp x10 (-1)) = 0 → bX12_writeText_352 G fr lo x0 x1 x3 x10 x12 14 x7 x0 h19 Q))))) ∧ (¬ x15 ≤ 0 → ((¬ (lg_cmp x10 (-1)) = 0 → bX12_writeText_278 G fr lo x0 x1 x3 x4 x9 x15 (Int64.toInt32 x10) h19 Q) ∧ ((lg_cmp x10 (-1)) = 0 → bX12_writeText_278 G fr lo x0 x1 x3 x4 x9 x15 x15 h19 Q)))))) (fun r h2 => Q (.threw r) h2)) (fun r h2 => Q (.threw r) h2)) ∧ (¬ (fI h x0 3170) = 0 → Q (.returned none) h))
set_option maxRecDepth 100000 in
theorem uX12_writeText_224 {G : xG} {fr lo : Nat} {x0 : Nat} {x1 : Int32} {x3 : Int32} {x4 : Int32} {x5 : Int64} {x7 : UInt64} {x9 : Int32} {x10 : Int64} {x12 : Int64} {h : xH} {Q : Outcome → xH → Prop} (hq : bX12_writeText_224 G fr lo x0 x1 x3 x4 x5 x7 x9 x10 x12 h Q) : xP G YX12_writeText fr lo 224 [(0, rv x0), (1, .int x1), (3, .int x3), (4, .int x4), (5, .long x5), (7, .double x7), (9, .int x9), (10, .long x10), (12, .long x12)] [] h Q := by
  unfold bX12_writeText_224 at hq
  refine x_aload_n 0 dX12_writeText_224 rfl ?_
  obtain ⟨g1, hq⟩ := hq
  refine x_get (v := .int (fI h x0 3170)) fdX12_1121 dX12_writeText_225 g1 rfl ?_
  refine x_if_eq (tgt := 232) dX12_writeText_228 (by decide) (fun c2 => ?_) (fun c2 => ?_)
  · replace hq := hq.1 c2
    refine x_aload_n 0 dX12_writeText_232 rfl ?_
    refine x_get (v := rv (fR h x0 3113)) fdX12_96 dX12_writeText_233 g1 rfl ?_
    refine x_iload 3 dX12_writeText_236 rfl ?_
    obtain ⟨g3, hq⟩ := hq
    obtain ⟨i4, hq⟩ := hq
    refine x_aald 8 rfl g3 (by decide) i4 dX12_writeText_238 ?_
    obtain ⟨g5, hq⟩ := hq
    obtain ⟨g6, g7, hq⟩ := hq
    refine x_callV (Yc := YX13_own) (as := []) (st := []) q4189 mvX13_own g5 rfl dX12_writeText_239 (xle (xal1 (rv_cat _) xal0) (by decide)) (xfr g6) (xlo xsw0 (by decide) g7) (xKr hq (fun x9 h8 hq e10 => ?_) (fun _ _ q _ => q))
    replace hq := hq e10
    refine x_astore (lv' := [(14, rv x9), (0, rv x0), (1, .int x1), (3, .int x3), (4, .int x4), (5, .long x5), (7, .double x7), (9, .int x9), (10, .long x10), (12, .long x12)]) dX12_writeText_242 (by decide) rfl ?_
    refine x_aload 0 dX12_writeText_244 rfl ?_
    obtain ⟨g11, hq⟩ := hq
    obtain ⟨g12, g13, hq⟩ := hq
    refine x_callV (Yc := YX13_characters) (as := []) (st := []) q4381 mvX13_characters g11 rfl dX12_writeText_246 (xle (xal1 (rv_cat _) xal0) (by decide)) (xfr g12) (xlo xsw0 (by decide) g13) (xKi hq (fun x15 h14 hq e16 => ?_) (fun _ _ q _ => q))
    replace hq := hq e16
    refine x_istore (lv' := [(15, .int x15), (14, rv x9), (0, rv x0), (1, .int x1), (3, .int x3), (4, .int x4), (5, .long x5), (7, .double x7), (9, .int x9), (10, .long x10), (12, .long x12)]) dX12_writeText_249 (by decide) (by first | rfl | (simp [rv_cat, Value.category]; done) | (simp [rv_cat, Value.category]; decide)) ?_
    refine x_aload_n 2 dX12_writeText_251 rfl ?_
    refine x_iconst (v := 0) dX12_writeText_252 (by decide) ?_
    have t17 : tg h8 x0 = 13 := e10.tg g1 (by decide)
    have t18 : tg h14 x0 = 13 := e16.tg t17 (by decide)
    obtain ⟨h19, e20⟩ : ∃ y, y = sI h14 x0 3200 0 := ⟨_, rfl⟩
    replace hq := hq h19 e20
    refine x_putI fdX12_1468 xty_I1 dX12_writeText_253 t18 (Or.inl (by rw [t18]; rfl)) xnI rfl e20 ?_
    refine x_iload 0 dX12_writeText_256 rfl ?_
    refine x_if_le (tgt := 323) dX12_writeText_258 (by decide) (fun c21 => ?_) (fun c21 => ?_)
    · replace hq := hq.1 c21
      refine x_aload 1 dX12_writeText_323 rfl ?_
      refine x_aload_n 2 dX12_writeText_325 rfl ?_
      have t22 : tg h19 x0 = 13 := by rw [e20]; exact t18
      refine x_get (v := rv (fR h19 x0 3116)) fdX12_113 dX12_writeText_326 t22 rfl ?_
      refine x_acmp_ne (tgt := 390) dX12_writeText_329 (by decide) (fun c23 => ?_) (fun c23 => ?_)
      · replace hq := hq.1 c23
        refine x_aload 1 dX12_writeText_390 rfl ?_
        refine x_aload_n 2 dX12_writeText_392 rfl ?_
        refine x_get (v := rv (fR h19 x0 3115)) fdX12_109 dX12_writeText_393 t22 rfl ?_
        refine x_acmp_ne (tgt := 437) dX12_writeText_396 (by decide) (fun c24 => ?_) (fun c24 => ?_)
        · replace hq := hq.1 c24
          refine x_aload 1 dX12_writeText_437 rfl ?_
          refine x_aload_n 2 dX12_writeText_439 rfl ?_
          refine x_get (v := rv (fR h19 x0 3117)) fdX12_116 dX12_writeText_440 t22 rfl ?_
          refine x_acmp_ne (tgt := 498) dX12_writeText_443 (by decide) (fun c25 => ?_) (fun c25 => ?_)
          · replace hq := hq.1 c25
            refine x_aload_n 2 dX12_writeText_498 rfl ?_
            refine x_lload 6 dX12_writeText_499 rfl ?_
            refine x_l2i dX12_writeText_501 ?_
            obtain ⟨g26, g27, hq⟩ := hq
            refine x_callV (Yc := YX12_say) (as := [.int (Int64.toInt32 x5)]) (st := []) q4779 mvX12_say t22 rfl dX12_writeText_502 (xle (xal1 (rv_cat _) (xal1 rfl xal0)) (by decide)) (xfr g26) (xlo xsw0 (by decide) g27) (xKv hq (fun h28 hq e30 => ?_) (fun _ _ q _ => q))
            replace hq := hq e30
            refine x_aload_n 2 dX12_writeText_505 rfl ?_
            refine x_iload_n 3 dX12_writeText_506 rfl ?_
            refine x_iconst (v := (-1)) dX12_writeText_507 (by decide) ?_
            refine x_iconst (v := 1) dX12_writeText_508 (by decide) ?_
            refine x_lload 9 dX12_writeText_509 rfl ?_
            refine x_ldc2 (v := (-1)) q4606 dX12_writeText_511 ?_
            refine x_lcmp dX12_writeText_514 ?_
            refine x_if_ne (tgt := 522) dX12_writeText_515 (by decide) (fun c31 => ?_) (fun c31 => ?_)
            · replace hq := hq.1 c31
              refine x_lload 9 dX12_writeText_522 rfl ?_
              refine x_l2i dX12_writeText_524 ?_
              refine xP.pick (lv' := [(3, .int x3)]) [4] rfl ?_
              exact uX12_writeText_525 hq
            · replace hq := hq.2 c31
              refine x_iconst (v := 1) dX12_writeText_518 (by decide) ?_
              refine x_goto (tgt := 525) dX12_writeText_519 (by decide) ?_
              refine xP.pick (lv' := [(3, .int x3)]) [4] rfl ?_
              exact uX12_writeText_525 hq
          · replace hq := hq.2 c25
            refine x_aload_n 2 dX12_writeText_446 rfl ?_
            refine x_lload 6 dX12_writeText_447 rfl ?_
            refine x_lconst (v := 1) dX12_writeText_449 (by decide) ?_
            refine x_lcmp dX12_writeText_450 ?_
            refine x_if_ne (tgt := 460) dX12_writeText_451 (by decide) (fun c32 => ?_) (fun c32 => ?_)
            · replace hq := hq.1 c32
              refine x_ldcwS (n := 40) 182 srX12_620 dX12_writeText_460 ?_
              refine xP.pick (lv' := [(0, rv x0), (1, .int x1), (3, .int x3), (10, .long x10)]) [2, 3, 4, 9] rfl ?_
              exact uX12_writeText_463 hq
            · replace hq := hq.2 c32
              refine x_ldcwS (n := 41) 183 srX12_622 dX12_writeText_454 ?_
              refine x_goto (tgt := 463) dX12_writeText_457 (by decide) ?_
              refine xP.pick (lv' := [(0, rv x0), (1, .int x1), (3, .int x3), (10, .long x10)]) [2, 3, 4, 9] rfl ?_
              exact uX12_writeText_463 hq
        · replace hq := hq.2 c24
          refine x_aload_n 2 dX12_writeText_399 rfl ?_
          refine x_lload 6 dX12_writeText_400 rfl ?_
          obtain ⟨g33, g34, hq⟩ := hq
          refine x_callV (Yc := YX12_spellWhole) (as := [.long x5]) (st := []) q4787 mvX12_spellWhole t22 rfl dX12_writeText_402 (xle (xal1 (rv_cat _) (xal2 rfl xal0)) (by decide)) (xfr g33) (xlo xsw0 (by decide) g34) (xKv hq (fun h35 hq e37 => ?_) (fun _ _ q _ => q))
          replace hq := hq e37
          refine x_aload_n 2 dX12_writeText_405 rfl ?_
          refine x_iload_n 3 dX12_writeText_406 rfl ?_
          refine x_iconst (v := (-1)) dX12_writeText_407 (by decide) ?_
          refine x_aload_n 2 dX12_writeText_408 rfl ?_
          have t38 : tg h35 x0 = 13 := e37.tg t22 (by decide)
          refine x_get (v := .int (fI h35 x0 3200)) fdX12_1468 dX12_writeText_409 t38 rfl ?_
          refine x_lload 9 dX12_writeText_412 rfl ?_
          refine x_ldc2 (v := (-1)) q4606 dX12_writeText_414 ?_
          refine x_lcmp dX12_writeText_417 ?_
          refine x_if_ne (tgt := 426) dX12_writeText_418 (by decide) (fun c39 => ?_) (fun c39 => ?_)
          · replace hq := hq.1 c39
            refine x_lload 9 dX12_writeText_426 rfl ?_
            refine x_l2i dX12_writeText_428 ?_
            refine xP.pick (lv' := [(3, .int x3)]) [4] rfl ?_
            exact uX12_writeText_429 hq
          · replace hq := hq.2 c39
            refine x_bipush (v := 8) dX12_writeText_421 (by decide) ?_
            refine x_goto (tgt := 429) dX12_writeText_423 (by decide) ?_
            refine xP.pick (lv' := [(3, .int x3)]) [4] rfl ?_
            exact uX12_writeText_429 hq
      · replace hq := hq.2 c23
        refine x_aload_n 2 dX12_writeText_332 rfl ?_
        refine x_dload 7 dX12_writeText_333 rfl ?_
        refine x_lload 9 dX12_writeText_335 rfl ?_
        refine x_ldc2 (v := (-1)) q4606 dX12_writeText_337 ?_
        refine x_lcmp dX12_writeText_340 ?_
        refine x_if_ne (tgt := 349) dX12_writeText_341 (by decide) (fun c40 => ?_) (fun c40 => ?_)
        · replace hq := hq.1 c40
          refine x_lload 9 dX12_writeText_349 rfl ?_
          refine x_l2i dX12_writeText_351 ?_
          refine xP.pick (lv' := [(0, rv x0), (1, .int x1), (3, .int x3), (10, .long x10), (12, .long x12)]) [2, 3, 4, 9, 10] rfl ?_
          exact uX12_writeText_352 hq
        · replace hq := hq.2 c40
          refine x_bipush (v := 14) dX12_writeText_344 (by decide) ?_
          refine x_goto (tgt := 352) dX12_writeText_346 (by decide) ?_
          refine xP.pick (lv' := [(0, rv x0), (1, .int x1), (3, .int x3), (10, .long x10), (12, .long x12)]) [2, 3, 4, 9, 10] rfl ?_
          exact uX12_writeText_352 hq
    · replace hq := hq.2 c21
      refine x_lload 9 dX12_writeText_261 rfl ?_
      refine x_ldc2 (v := (-1)) q4606 dX12_writeText_263 ?_
      refine x_lcmp dX12_writeText_266 ?_
      refine x_if_ne (tgt := 275) dX12_writeText_267 (by decide) (fun c41 => ?_) (fun c41 => ?_)
      · replace hq := hq.1 c41
        refine x_lload 9 dX12_writeText_275 rfl ?_
        refine x_l2i dX12_writeText_277 ?_
        refine xP.pick (lv' := [(0, rv x0), (1, .int x1), (3, .int x3), (4, .int x4), (9, .int x9), (15, .int x15)]) [2, 3, 4, 5, 8, 0] rfl ?_
        exact uX12_writeText_278 hq
      · replace hq := hq.2 c41
        refine x_iload 0 dX12_writeText_270 rfl ?_
        refine x_goto (tgt := 278) dX12_writeText_272 (by decide) ?_
        refine xP.pick (lv' := [(0, rv x0), (1, .int x1), (3, .int x3), (4, .int x4), (9, .int x9), (15, .int x15)]) [2, 3, 4, 5, 8, 0] rfl ?_
        exact uX12_writeText_278 hq
  · replace hq := hq.2 c2
    exact x_vret rfl dX12_writeText_231 hq
set_option maxRecDepth 100000 in
def bX12_writeText_212 (G : xG) (fr lo : Nat) (x0 : Nat) (x1 : Int32) (x2 : Int32) (x3 : Int32) (x4 : Int32) (x5 : Int64) (x7 : UInt64) (x9 : Int32) (x10 : Int64) (x12 : Int64) (h : xH) (Q : Outcome → xH → Prop) : Prop := tg h x0 = 13 ∧ tg h (fR h x0 3107) = 100 ∧ vp_in x2 (ln h (fR h x0 3107)) ∧ 1 ≤ fr ∧ 14 ≤ lo ∧ xRv G YX12_error (fr - 1) (lo - 14) [rv x0, .int 12, .int (aI h (fR h x0 3107) (Int32.toNatClampNeg x2))] h (fun h6 => xext h h6 → bX12_writeText_224 G fr lo x0 x1 x3 x4 x5 x7 x9 x10 x12 h6 Q) (fun r h2 => Q (.threw r) h2)
set_option maxRecDepth 100000 in
theorem uX12_writeText_212 {G : xG} {fr lo : Nat} {x0 : Nat} {x1 : Int32} {x2 : Int32} {x3 : Int32} {x4 : Int32} {x5 : Int64} {x7 : UInt64} {x9 : Int32} {x10 : Int64} {x12 : Int64} {h : xH} {Q : Outcome → xH → Prop} (hq : bX12_writeText_212 G fr lo x0 x1 x2 x3 x4 x5 x7 x9 x10 x12 h Q) : xP G YX12_writeText fr lo 212 [(0, rv x0), (1, .int x1), (2, .int x2), (3, .int x3), (4, .int x4), (5, .long x5), (7, .double x7), (9, .int x9), (10, .long x10), (12, .long x12)] [] h Q := by
  unfold bX12_writeText_212 at hq
  refine x_aload_n 0 dX12_writeText_212 rfl ?_
  refine x_bipush (v := 12) dX12_writeText_213 (by decide) ?_
  refine x_aload_n 0 dX12_writeText_215 rfl ?_
  obtain ⟨g1, hq⟩ := hq
  refine x_get (v := rv (fR h x0 3107)) fdX12_85 dX12_writeText_216 g1 rfl ?_
  refine x_iload_n 2 dX12_writeText_219 rfl ?_
  obtain ⟨g2, hq⟩ := hq
  obtain ⟨i3, hq⟩ := hq
  refine x_iald 0 (Or.inl rfl) g2 i3 dX12_writeText_220 ?_
  obtain ⟨g4, g5, hq⟩ := hq
  refine x_callV (Yc := YX12_error) (as := [.int 12, .int (aI h (fR h x0 3107) (Int32.toNatClampNeg x2))]) (st := []) q4490 mvX12_error g1 rfl dX12_writeText_221 (xle (xal1 (rv_cat _) (xal1 rfl (xal1 rfl xal0))) (by decide)) (xfr g4) (xlo xsw0 (by decide) g5) (xKv hq (fun h6 hq e8 => ?_) (fun _ _ q _ => q))
  replace hq := hq e8
  refine xP.pick (lv' := [(0, rv x0), (1, .int x1), (3, .int x3), (4, .int x4), (5, .long x5), (7, .double x7), (9, .int x9), (10, .long x10), (12, .long x12)]) [0, 1, 3, 4, 5, 6, 7, 8, 9] rfl ?_
  exact uX12_writeText_224 hq
set_option maxRecDepth 100000 in
def bX12_writeText_186 (G : xG) (fr lo : Nat) (x0 : Nat) (x1 : Int32) (x2 : Int32) (x3 : Int32) (x4 : Int32) (x5 : Int64) (x7 : UInt64) (x9 : Int32) (x10 : Int64) (x12 : Int64) (h : xH) (Q : Outcome → xH → Prop) : Prop := tg h x0 = 13 ∧ tg h (fR h x0 3107) = 100 ∧ vp_in x2 (ln h (fR h x0 3107)) ∧ (((aI h (fR h x0 3107) (Int32.toNatClampNeg x2)) = (-1) → bX12_writeText_224 G fr lo x0 x1 x3 x4 x5 x7 x9 x10 x12 h Q) ∧ (¬ (aI h (fR h x0 3107) (Int32.toNatClampNeg x2)) = (-1) → (((lg_cmp x12 1) < 0 → bX12_writeText_212 G fr lo x0 x1 x2 x3 x4 x5 x7 x9 x10 x12 h Q) ∧ (¬ (lg_cmp x12 1) < 0 → (((lg_cmp x12 9) ≤ 0 → bX12_writeText_224 G fr lo x0 x1 x3 x4 x5 x7 x9 x10 x12 h Q) ∧ (¬ (lg_cmp x12 9) ≤ 0 → bX12_writeText_212 G fr lo x0 x1 x2 x3 x4 x5 x7 x9 x10 x12 h Q))))))
set_option maxRecDepth 100000 in
theorem uX12_writeText_186 {G : xG} {fr lo : Nat} {x0 : Nat} {x1 : Int32} {x2 : Int32} {x3 : Int32} {x4 : Int32} {x5 : Int64} {x7 : UInt64} {x9 : Int32} {x10 : Int64} {x12 : Int64} {h : xH} {Q : Outcome → xH → Prop} (hq : bX12_writeText_186 G fr lo x0 x1 x2 x3 x4 x5 x7 x9 x10 x12 h Q) : xP G YX12_writeText fr lo 186 [(0, rv x0), (1, .int x1), (2, .int x2), (3, .int x3), (4, .int x4), (5, .long x5), (7, .double x7), (9, .int x9), (10, .long x10), (12, .long x12)] [] h Q := by
  unfold bX12_writeText_186 at hq
  refine x_aload_n 0 dX12_writeText_186 rfl ?_
  obtain ⟨g1, hq⟩ := hq
  refine x_get (v := rv (fR h x0 3107)) fdX12_85 dX12_writeText_187 g1 rfl ?_
  refine x_iload_n 2 dX12_writeText_190 rfl ?_
  obtain ⟨g2, hq⟩ := hq
  obtain ⟨i3, hq⟩ := hq
  refine x_iald 0 (Or.inl rfl) g2 i3 dX12_writeText_191 ?_
  refine x_iconst (v := (-1)) dX12_writeText_192 (by decide) ?_
  refine x_icmp_eq (tgt := 224) dX12_writeText_193 (by decide) (fun c4 => ?_) (fun c4 => ?_)
  · replace hq := hq.1 c4
    refine xP.pick (lv' := [(0, rv x0), (1, .int x1), (3, .int x3), (4, .int x4), (5, .long x5), (7, .double x7), (9, .int x9), (10, .long x10), (12, .long x12)]) [0, 1, 3, 4, 5, 6, 7, 8, 9] rfl ?_
    exact uX12_writeText_224 hq
  · replace hq := hq.2 c4
    refine x_lload 9 dX12_writeText_196 rfl ?_
    refine x_lconst (v := 1) dX12_writeText_198 (by decide) ?_
    refine x_lcmp dX12_writeText_199 ?_
    refine x_if_lt (tgt := 212) dX12_writeText_200 (by decide) (fun c5 => ?_) (fun c5 => ?_)
    · replace hq := hq.1 c5
      exact uX12_writeText_212 hq
    · replace hq := hq.2 c5
      refine x_lload 9 dX12_writeText_203 rfl ?_
      refine x_ldc2 (v := 9) q4765 dX12_writeText_205 ?_
      refine x_lcmp dX12_writeText_208 ?_
      refine x_if_le (tgt := 224) dX12_writeText_209 (by decide) (fun c6 => ?_) (fun c6 => ?_)
      · replace hq := hq.1 c6
        refine xP.pick (lv' := [(0, rv x0), (1, .int x1), (3, .int x3), (4, .int x4), (5, .long x5), (7, .double x7), (9, .int x9), (10, .long x10), (12, .long x12)]) [0, 1, 3, 4, 5, 6, 7, 8, 9] rfl ?_
        exact uX12_writeText_224 hq
      · replace hq := hq.2 c6
        exact uX12_writeText_212 hq
set_option maxRecDepth 100000 in
def bX12_writeText_171 (G : xG) (fr lo : Nat) (x0 : Nat) (x1 : Int32) (x2 : Int32) (x3 : Int32) (x4 : Int32) (x5 : Int64) (x7 : UInt64) (x9 : Int32) (x10 : Int64) (x12 : Int64) (h : xH) (Q : Outcome → xH → Prop) : Prop := tg h x0 = 13 ∧ tg h (fR h x0 3106) = 100 ∧ vp_in x2 (ln h (fR h x0 3106)) ∧ 1 ≤ fr ∧ 14 ≤ lo ∧ xRv G YX12_error (fr - 1) (lo - 14) [rv x0, .int 12, .int (aI h (fR h x0 3106) (Int32.toNatClampNeg x2))] h (fun h6 => xext h h6 → bX12_writeText_224 G fr lo x0 x1 x3 x4 x5 x7 x9 x10 x12 h6 Q) (fun r h2 => Q (.threw r) h2)
set_option maxRecDepth 100000 in
theorem uX12_writeText_171 {G : xG} {fr lo : Nat} {x0 : Nat} {x1 : Int32} {x2 : Int32} {x3 : Int32} {x4 : Int32} {x5 : Int64} {x7 : UInt64} {x9 : Int32} {x10 : Int64} {x12 : Int64} {h : xH} {Q : Outcome → xH → Prop} (hq : bX12_writeText_171 G fr lo x0 x1 x2 x3 x4 x5 x7 x9 x10 x12 h Q) : xP G YX12_writeText fr lo 171 [(0, rv x0), (1, .int x1), (2, .int x2), (3, .int x3), (4, .int x4), (5, .long x5), (7, .double x7), (9, .int x9), (10, .long x10), (12, .long x12)] [] h Q := by
  unfold bX12_writeText_171 at hq
  refine x_aload_n 0 dX12_writeText_171 rfl ?_
  refine x_bipush (v := 12) dX12_writeText_172 (by decide) ?_
  refine x_aload_n 0 dX12_writeText_174 rfl ?_
  obtain ⟨g1, hq⟩ := hq
  refine x_get (v := rv (fR h x0 3106)) fdX12_82 dX12_writeText_175 g1 rfl ?_
  refine x_iload_n 2 dX12_writeText_178 rfl ?_
  obtain ⟨g2, hq⟩ := hq
  obtain ⟨i3, hq⟩ := hq
  refine x_iald 0 (Or.inl rfl) g2 i3 dX12_writeText_179 ?_
  obtain ⟨g4, g5, hq⟩ := hq
  refine x_callV (Yc := YX12_error) (as := [.int 12, .int (aI h (fR h x0 3106) (Int32.toNatClampNeg x2))]) (st := []) q4490 mvX12_error g1 rfl dX12_writeText_180 (xle (xal1 (rv_cat _) (xal1 rfl (xal1 rfl xal0))) (by decide)) (xfr g4) (xlo xsw0 (by decide) g5) (xKv hq (fun h6 hq e8 => ?_) (fun _ _ q _ => q))
  replace hq := hq e8
  refine x_goto (tgt := 224) dX12_writeText_183 (by decide) ?_
  refine xP.pick (lv' := [(0, rv x0), (1, .int x1), (3, .int x3), (4, .int x4), (5, .long x5), (7, .double x7), (9, .int x9), (10, .long x10), (12, .long x12)]) [0, 1, 3, 4, 5, 6, 7, 8, 9] rfl ?_
  exact uX12_writeText_224 hq
set_option maxRecDepth 100000 in
def bX12_writeText_125 (G : xG) (fr lo : Nat) (x0 : Nat) (x1 : Int32) (x2 : Int32) (x3 : Int32) (x4 : Int32) (x5 : Int64) (x7 : UInt64) (x9 : Int32) (x10 : Int64) (x12 : Int64) (h : xH) (Q : Outcome → xH → Prop) : Prop := tg h x0 = 13 ∧ tg h (fR h x0 3182) = 100 ∧ vp_in x1 (ln h (fR h x0 3182)) ∧ (((aI h (fR h x0 3182) (Int32.toNatClampNeg x1)) = 2 → tg h (fR h x0 3106) = 100 ∧ vp_in x2 (ln h (fR h x0 3106)) ∧ (((aI h (fR h x0 3106) (Int32.toNatClampNeg x2)) = (-1) → bX12_writeText_186 G fr lo x0 x1 x2 x3 x4 x5 x7 x9 x10 x12 h Q) ∧ (¬ (aI h (fR h x0 3106) (Int32.toNatClampNeg x2)) = (-1) → (((lg_cmp x10 1) < 0 → bX12_writeText_171 G fr lo x0 x1 x2 x3 x4 x5 x7 x9 x10 x12 h Q) ∧ (¬ (lg_cmp x10 1) < 0 → (((lg_cmp x10 100) ≤ 0 → bX12_writeText_186 G fr lo x0 x1 x2 x3 x4 x5 x7 x9 x10 x12 h Q) ∧ (¬ (lg_cmp x10 100) ≤ 0 → bX12_writeText_171 G fr lo x0 x1 x2 x3 x4 x5 x7 x9 x10 x12 h Q))))))) ∧ (¬ (aI h (fR h x0 3182) (Int32.toNatClampNeg x1)) = 2 → 1 ≤ fr ∧ 14 ≤ lo ∧ xRv G YX12_error (fr - 1) (lo - 14) [rv x0, .int 10, .int x3] h (fun h12 => xext h h12 → bX12_writeText_224 G fr lo x0 x1 x3 x4 x5 x7 x9 x10 x12 h12 Q) (fun r h2 => Q (.threw r) h2)))
set_option maxRecDepth 100000 in
theorem uX12_writeText_125 {G : xG} {fr lo : Nat} {x0 : Nat} {x1 : Int32} {x2 : Int32} {x3 : Int32} {x4 : Int32} {x5 : Int64} {x7 : UInt64} {x9 : Int32} {x10 : Int64} {x12 : Int64} {h : xH} {Q : Outcome → xH → Prop} (hq : bX12_writeText_125 G fr lo x0 x1 x2 x3 x4 x5 x7 x9 x10 x12 h Q) : xP G YX12_writeText fr lo 125 [(0, rv x0), (1, .int x1), (2, .int x2), (3, .int x3), (4, .int x4), (5, .long x5), (7, .double x7), (9, .int x9), (10, .long x10), (12, .long x12)] [] h Q := by
  unfold bX12_writeText_125 at hq
  refine x_aload_n 0 dX12_writeText_125 rfl ?_
  obtain ⟨g1, hq⟩ := hq
  refine x_get (v := rv (fR h x0 3182)) fdX12_204 dX12_writeText_126 g1 rfl ?_
  refine x_iload_n 1 dX12_writeText_129 rfl ?_
  obtain ⟨g2, hq⟩ := hq
  obtain ⟨i3, hq⟩ := hq
  refine x_iald 0 (Or.inl rfl) g2 i3 dX12_writeText_130 ?_
  refine x_iconst (v := 2) dX12_writeText_131 (by decide) ?_
  refine x_icmp_eq (tgt := 145) dX12_writeText_132 (by decide) (fun c4 => ?_) (fun c4 => ?_)
  · replace hq := hq.1 c4
    refine x_aload_n 0 dX12_writeText_145 rfl ?_
    refine x_get (v := rv (fR h x0 3106)) fdX12_82 dX12_writeText_146 g1 rfl ?_
    refine x_iload_n 2 dX12_writeText_149 rfl ?_
    obtain ⟨g5, hq⟩ := hq
    obtain ⟨i6, hq⟩ := hq
    refine x_iald 0 (Or.inl rfl) g5 i6 dX12_writeText_150 ?_
    refine x_iconst (v := (-1)) dX12_writeText_151 (by decide) ?_
    refine x_icmp_eq (tgt := 186) dX12_writeText_152 (by decide) (fun c7 => ?_) (fun c7 => ?_)
    · replace hq := hq.1 c7
      exact uX12_writeText_186 hq
    · replace hq := hq.2 c7
      refine x_lload 8 dX12_writeText_155 rfl ?_
      refine x_lconst (v := 1) dX12_writeText_157 (by decide) ?_
      refine x_lcmp dX12_writeText_158 ?_
      refine x_if_lt (tgt := 171) dX12_writeText_159 (by decide) (fun c8 => ?_) (fun c8 => ?_)
      · replace hq := hq.1 c8
        exact uX12_writeText_171 hq
      · replace hq := hq.2 c8
        refine x_lload 8 dX12_writeText_162 rfl ?_
        refine x_ldc2 (v := 100) q4764 dX12_writeText_164 ?_
        refine x_lcmp dX12_writeText_167 ?_
        refine x_if_le (tgt := 186) dX12_writeText_168 (by decide) (fun c9 => ?_) (fun c9 => ?_)
        · replace hq := hq.1 c9
          exact uX12_writeText_186 hq
        · replace hq := hq.2 c9
          exact uX12_writeText_171 hq
  · replace hq := hq.2 c4
    refine x_aload_n 0 dX12_writeText_135 rfl ?_
    refine x_bipush (v := 10) dX12_writeText_136 (by decide) ?_
    refine x_iload_n 3 dX12_writeText_138 rfl ?_
    obtain ⟨g10, g11, hq⟩ := hq
    refine x_callV (Yc := YX12_error) (as := [.int 10, .int x3]) (st := []) q4490 mvX12_error g1 rfl dX12_writeText_139 (xle (xal1 (rv_cat _) (xal1 rfl (xal1 rfl xal0))) (by decide)) (xfr g10) (xlo xsw0 (by decide) g11) (xKv hq (fun h12 hq e14 => ?_) (fun _ _ q _ => q))
    replace hq := hq e14
    refine x_goto (tgt := 224) dX12_writeText_142 (by decide) ?_
    refine xP.pick (lv' := [(0, rv x0), (1, .int x1), (3, .int x3), (4, .int x4), (5, .long x5), (7, .double x7), (9, .int x9), (10, .long x10), (12, .long x12)]) [0, 1, 3, 4, 5, 6, 7, 8, 9] rfl ?_
    exact uX12_writeText_224 hq
set_option maxRecDepth 100000 in
def bX12_writeText_85 (G : xG) (fr lo : Nat) (x0 : Nat) (x1 : Int32) (x2 : Int32) (x3 : Int32) (x4 : Int32) (x5 : Int64) (x7 : UInt64) (x9 : Int32) (x10 : Int64) (x12 : Int64) (h : xH) (Q : Outcome → xH → Prop) : Prop := tg h x0 = 13 ∧ tg h (fR h x0 3107) = 100 ∧ vp_in x2 (ln h (fR h x0 3107)) ∧ (((aI h (fR h x0 3107) (Int32.toNatClampNeg x2)) = (-1) → bX12_writeText_125 G fr lo x0 x1 x2 x3 x4 x5 x7 x9 x10 x12 h Q) ∧ (¬ (aI h (fR h x0 3107) (Int32.toNatClampNeg x2)) = (-1) → tg h (fR h x0 3105) = 100 ∧ vp_in x4 (ln h (fR h x0 3105)) ∧ vp_in (aI h (fR h x0 3105) (Int32.toNatClampNeg x4)) (ln h (fR h x0 3105)) ∧ 1 ≤ fr ∧ 37 ≤ lo ∧ xRv G YX12_evaluate (fr - 1) (lo - 37) [rv x0, .int (aI h (fR h x0 3105) (Int32.toNatClampNeg (aI h (fR h x0 3105) (Int32.toNatClampNeg x4))))] h (fun h10 => xext h h10 → (((fI h10 x0 3170) = 0 → bX12_writeText_125 G fr lo x0 x1 x2 x3 x4 x5 x7 x9 x10 (fJ h10 x0 3177) h10 Q) ∧ (¬ (fI h10 x0 3170) = 0 → Q (.returned none) h10))) (fun r h2 => Q (.threw r) h2)))
set_option maxRecDepth 100000 in
theorem uX12_writeText_85 {G : xG} {fr lo : Nat} {x0 : Nat} {x1 : Int32} {x2 : Int32} {x3 : Int32} {x4 : Int32} {x5 : Int64} {x7 : UInt64} {x9 : Int32} {x10 : Int64} {x12 : Int64} {h : xH} {Q : Outcome → xH → Prop} (hq : bX12_writeText_85 G fr lo x0 x1 x2 x3 x4 x5 x7 x9 x10 x12 h Q) : xP G YX12_writeText fr lo 85 [(0, rv x0), (1, .int x1), (2, .int x2), (3, .int x3), (4, .int x4), (5, .long x5), (7, .double x7), (9, .int x9), (10, .long x10), (12, .long x12)] [] h Q := by
  unfold bX12_writeText_85 at hq
  refine x_aload_n 0 dX12_writeText_85 rfl ?_
  obtain ⟨g1, hq⟩ := hq
  refine x_get (v := rv (fR h x0 3107)) fdX12_85 dX12_writeText_86 g1 rfl ?_
  refine x_iload_n 2 dX12_writeText_89 rfl ?_
  obtain ⟨g2, hq⟩ := hq
  obtain ⟨i3, hq⟩ := hq
  refine x_iald 0 (Or.inl rfl) g2 i3 dX12_writeText_90 ?_
  refine x_iconst (v := (-1)) dX12_writeText_91 (by decide) ?_
  refine x_icmp_eq (tgt := 125) dX12_writeText_92 (by decide) (fun c4 => ?_) (fun c4 => ?_)
  · replace hq := hq.1 c4
    exact uX12_writeText_125 hq
  · replace hq := hq.2 c4
    refine x_aload_n 0 dX12_writeText_95 rfl ?_
    refine x_aload_n 0 dX12_writeText_96 rfl ?_
    refine x_get (v := rv (fR h x0 3105)) fdX12_79 dX12_writeText_97 g1 rfl ?_
    refine x_aload_n 0 dX12_writeText_100 rfl ?_
    refine x_get (v := rv (fR h x0 3105)) fdX12_79 dX12_writeText_101 g1 rfl ?_
    refine x_iload 4 dX12_writeText_104 rfl ?_
    obtain ⟨g5, hq⟩ := hq
    obtain ⟨i6, hq⟩ := hq
    refine x_iald 0 (Or.inl rfl) g5 i6 dX12_writeText_106 ?_
    obtain ⟨i7, hq⟩ := hq
    refine x_iald 0 (Or.inl rfl) g5 i7 dX12_writeText_107 ?_
    obtain ⟨g8, g9, hq⟩ := hq
    refine x_callV (Yc := YX12_evaluate) (as := [.int (aI h (fR h x0 3105) (Int32.toNatClampNeg (aI h (fR h x0 3105) (Int32.toNatClampNeg x4))))]) (st := []) q4543 mvX12_evaluate g1 rfl dX12_writeText_108 (xle (xal1 (rv_cat _) (xal1 rfl xal0)) (by decide)) (xfr g8) (xlo xsw0 (by decide) g9) (xKv hq (fun h10 hq e12 => ?_) (fun _ _ q _ => q))
    replace hq := hq e12
    refine x_aload_n 0 dX12_writeText_111 rfl ?_
    have t13 : tg h10 x0 = 13 := e12.tg g1 (by decide)
    refine x_get (v := .int (fI h10 x0 3170)) fdX12_1121 dX12_writeText_112 t13 rfl ?_
    refine x_if_eq (tgt := 119) dX12_writeText_115 (by decide) (fun c14 => ?_) (fun c14 => ?_)
    · replace hq := hq.1 c14
      refine x_aload_n 0 dX12_writeText_119 rfl ?_
      refine x_get (v := .long (fJ h10 x0 3177)) fdX12_1145 dX12_writeText_120 t13 rfl ?_
      refine x_lstore (lv' := [(12, .long (fJ h10 x0 3177)), (0, rv x0), (1, .int x1), (2, .int x2), (3, .int x3), (4, .int x4), (5, .long x5), (7, .double x7), (9, .int x9), (10, .long x10)]) dX12_writeText_123 (by decide) rfl ?_
      refine xP.pick (lv' := [(0, rv x0), (1, .int x1), (2, .int x2), (3, .int x3), (4, .int x4), (5, .long x5), (7, .double x7), (9, .int x9), (10, .long x10), (12, .long (fJ h10 x0 3177))]) [1, 2, 3, 4, 5, 6, 7, 8, 9, 0] rfl ?_
      exact uX12_writeText_125 hq
    · replace hq := hq.2 c14
      exact x_vret rfl dX12_writeText_118 hq
set_option maxRecDepth 100000 in
def bX12_writeText (G : xG) (fr lo : Nat) (x0 : Nat) (x1 : Int32) (x2 : Int32) (x3 : Int32) (h : xH) (Q : Outcome → xH → Prop) : Prop := tg h x0 = 13 ∧ tg h (fR h x0 3103) = 100 ∧ vp_in x2 (ln h (fR h x0 3103)) ∧ 1 ≤ fr ∧ 37 ≤ lo ∧ xRv G YX12_evaluate (fr - 1) (lo - 37) [rv x0, .int (aI h (fR h x0 3103) (Int32.toNatClampNeg x2))] h (fun h6 => xext h h6 → (((fI h6 x0 3170) = 0 → tg h6 (fR h6 x0 3106) = 100 ∧ vp_in x2 (ln h6 (fR h6 x0 3106)) ∧ (((aI h6 (fR h6 x0 3106) (Int32.toNatClampNeg x2)) = (-1) → bX12_writeText_85 G fr lo x0 x1 x2 x3 (aI h (fR h x0 3103) (Int32.toNatClampNeg x2)) (fJ h6 x0 3177) (fD h6 x0 3179) (fI h6 x0 3180) (-1) (-1) h6 Q) ∧ (¬ (aI h6 (fR h6 x0 3106) (Int32.toNatClampNeg x2)) = (-1) → tg h6 (fR h6 x0 3105) = 100 ∧ vp_in (aI h (fR h x0 3103) (Int32.toNatClampNeg x2)) (ln h6 (fR h6 x0 3105)) ∧ 1 ≤ fr ∧ 37 ≤ lo ∧ xRv G YX12_evaluate (fr - 1) (lo - 37) [rv x0, .int (aI h6 (fR h6 x0 3105) (Int32.toNatClampNeg (aI h (fR h x0 3103) (Int32.toNatClampNeg x2))))] h6 (fun h18 => xext h6 h18 → (((fI h18 x0 3170) = 0 → bX12_writeText_85 G fr lo x0 x1 x2 x3 (aI h (fR h x0 3103) (Int32.toNatClampNeg x2)) (fJ h6 x0 3177) (fD h6 x0 3179) (fI h6 x0 3180) (fJ h18 x0 3177) (-1) h18 Q) ∧ (¬ (fI h18 x0 3170) = 0 → Q (.returned none) h18))) (fun r h2 => Q (.threw r) h2)))) ∧ (¬ (fI h6 x0 3170) = 0 → Q (.returned none) h6))) (fun r h2 => Q (.threw r) h2)
set_option maxRecDepth 100000 in
theorem uX12_writeText {G : xG} {fr lo : Nat} {x0 : Nat} {x1 : Int32} {x2 : Int32} {x3 : Int32} {h : xH} {Q : Outcome → xH → Prop} (hq : bX12_writeText G fr lo x0 x1 x2 x3 h Q) : xP G YX12_writeText fr lo 0 [(0, rv x0), (1, .int x1), (2, .int x2), (3, .int x3)] [] h Q := by
  unfold bX12_writeText at hq
  refine x_aload_n 0 dX12_writeText_0 rfl ?_
  obtain ⟨g1, hq⟩ := hq
  refine x_get (v := rv (fR h x0 3103)) fdX12_73 dX12_writeText_1 g1 rfl ?_
  refine x_iload_n 2 dX12_writeText_4 rfl ?_
  obtain ⟨g2, hq⟩ := hq
  obtain ⟨i3, hq⟩ := hq
  refine x_iald 0 (Or.inl rfl) g2 i3 dX12_writeText_5 ?_
  refine x_istore (lv' := [(4, .int (aI h (fR h x0 3103) (Int32.toNatClampNeg x2))), (0, rv x0), (1, .int x1), (2, .int x2), (3, .int x3)]) dX12_writeText_6 (by decide) rfl ?_
  refine x_aload_n 1 dX12_writeText_8 rfl ?_
  refine x_iload 0 dX12_writeText_9 rfl ?_
  obtain ⟨g4, g5, hq⟩ := hq
  refine x_callV (Yc := YX12_evaluate) (as := [.int (aI h (fR h x0 3103) (Int32.toNatClampNeg x2))]) (st := []) q4543 mvX12_evaluate g1 rfl dX12_writeText_11 (xle (xal1 (rv_cat _) (xal1 rfl xal0)) (by decide)) (xfr g4) (xlo xsw0 (by decide) g5) (xKv hq (fun h6 hq e8 => ?_) (fun _ _ q _ => q))
  replace hq := hq e8
  refine x_aload_n 1 dX12_writeText_14 rfl ?_
  have t9 : tg h6 x0 = 13 := e8.tg g1 (by decide)
  refine x_get (v := .int (fI h6 x0 3170)) fdX12_1121 dX12_writeText_15 t9 rfl ?_
  refine x_if_eq (tgt := 22) dX12_writeText_18 (by decide) (fun c10 => ?_) (fun c10 => ?_)
  · replace hq := hq.1 c10
    refine x_aload_n 1 dX12_writeText_22 rfl ?_
    refine x_get (v := .long (fJ h6 x0 3177)) fdX12_1145 dX12_writeText_23 t9 rfl ?_
    refine x_lstore (lv' := [(5, .long (fJ h6 x0 3177)), (4, .int (aI h (fR h x0 3103) (Int32.toNatClampNeg x2))), (0, rv x0), (1, .int x1), (2, .int x2), (3, .int x3)]) dX12_writeText_26 (by decide) rfl ?_
    refine x_aload_n 2 dX12_writeText_28 rfl ?_
    refine x_get (v := .double (fD h6 x0 3179)) fdX12_1151 dX12_writeText_29 t9 rfl ?_
    refine x_dstore (lv' := [(7, .double (fD h6 x0 3179)), (5, .long (fJ h6 x0 3177)), (4, .int (aI h (fR h x0 3103) (Int32.toNatClampNeg x2))), (0, rv x0), (1, .int x1), (2, .int x2), (3, .int x3)]) dX12_writeText_32 (by decide) rfl ?_
    refine x_aload_n 3 dX12_writeText_34 rfl ?_
    refine x_get (v := .int (fI h6 x0 3180)) fdX12_1136 dX12_writeText_35 t9 rfl ?_
    refine x_istore (lv' := [(9, .int (fI h6 x0 3180)), (7, .double (fD h6 x0 3179)), (5, .long (fJ h6 x0 3177)), (4, .int (aI h (fR h x0 3103) (Int32.toNatClampNeg x2))), (0, rv x0), (1, .int x1), (2, .int x2), (3, .int x3)]) dX12_writeText_38 (by decide) rfl ?_
    refine x_ldc2 (v := (-1)) q4606 dX12_writeText_40 ?_
    refine x_lstore (lv' := [(10, .long (-1)), (9, .int (fI h6 x0 3180)), (7, .double (fD h6 x0 3179)), (5, .long (fJ h6 x0 3177)), (4, .int (aI h (fR h x0 3103) (Int32.toNatClampNeg x2))), (0, rv x0), (1, .int x1), (2, .int x2), (3, .int x3)]) dX12_writeText_43 (by decide) rfl ?_
    refine x_ldc2 (v := (-1)) q4606 dX12_writeText_45 ?_
    refine x_lstore (lv' := [(12, .long (-1)), (10, .long (-1)), (9, .int (fI h6 x0 3180)), (7, .double (fD h6 x0 3179)), (5, .long (fJ h6 x0 3177)), (4, .int (aI h (fR h x0 3103) (Int32.toNatClampNeg x2))), (0, rv x0), (1, .int x1), (2, .int x2), (3, .int x3)]) dX12_writeText_48 (by decide) rfl ?_
    refine x_aload_n 6 dX12_writeText_50 rfl ?_
    refine x_get (v := rv (fR h6 x0 3106)) fdX12_82 dX12_writeText_51 t9 rfl ?_
    refine x_iload_n 8 dX12_writeText_54 rfl ?_
    obtain ⟨g11, hq⟩ := hq
    obtain ⟨i12, hq⟩ := hq
    refine x_iald 0 (Or.inl rfl) g11 i12 dX12_writeText_55 ?_
    refine x_iconst (v := (-1)) dX12_writeText_56 (by decide) ?_
    refine x_icmp_eq (tgt := 85) dX12_writeText_57 (by decide) (fun c13 => ?_) (fun c13 => ?_)
    · replace hq := hq.1 c13
      refine xP.pick (lv' := [(0, rv x0), (1, .int x1), (2, .int x2), (3, .int x3), (4, .int (aI h (fR h x0 3103) (Int32.toNatClampNeg x2))), (5, .long (fJ h6 x0 3177)), (7, .double (fD h6 x0 3179)), (9, .int (fI h6 x0 3180)), (10, .long (-1)), (12, .long (-1))]) [6, 7, 8, 9, 5, 4, 3, 2, 1, 0] rfl ?_
      exact uX12_writeText_85 hq
    · replace hq := hq.2 c13
      refine x_aload_n 6 dX12_writeText_60 rfl ?_
      refine x_aload_n 6 dX12_writeText_61 rfl ?_
      refine x_get (v := rv (fR h6 x0 3105)) fdX12_79 dX12_writeText_62 t9 rfl ?_
      refine x_iload 5 dX12_writeText_65 rfl ?_
      obtain ⟨g14, hq⟩ := hq
      obtain ⟨i15, hq⟩ := hq
      refine x_iald 0 (Or.inl rfl) g14 i15 dX12_writeText_67 ?_
      obtain ⟨g16, g17, hq⟩ := hq
      refine x_callV (Yc := YX12_evaluate) (as := [.int (aI h6 (fR h6 x0 3105) (Int32.toNatClampNeg (aI h (fR h x0 3103) (Int32.toNatClampNeg x2))))]) (st := []) q4543 mvX12_evaluate t9 rfl dX12_writeText_68 (xle (xal1 (rv_cat _) (xal1 rfl xal0)) (by decide)) (xfr g16) (xlo xsw0 (by decide) g17) (xKv hq (fun h18 hq e20 => ?_) (fun _ _ q _ => q))
      replace hq := hq e20
      refine x_aload_n 6 dX12_writeText_71 rfl ?_
      have t21 : tg h18 x0 = 13 := e20.tg t9 (by decide)
      refine x_get (v := .int (fI h18 x0 3170)) fdX12_1121 dX12_writeText_72 t21 rfl ?_
      refine x_if_eq (tgt := 79) dX12_writeText_75 (by decide) (fun c22 => ?_) (fun c22 => ?_)
      · replace hq := hq.1 c22
        refine x_aload_n 6 dX12_writeText_79 rfl ?_
        refine x_get (v := .long (fJ h18 x0 3177)) fdX12_1145 dX12_writeText_80 t21 rfl ?_
        refine x_lstore (lv' := [(10, .long (fJ h18 x0 3177)), (12, .long (-1)), (9, .int (fI h6 x0 3180)), (7, .double (fD h6 x0 3179)), (5, .long (fJ h6 x0 3177)), (4, .int (aI h (fR h x0 3103) (Int32.toNatClampNeg x2))), (0, rv x0), (1, .int x1), (2, .int x2), (3, .int x3)]) dX12_writeText_83 (by decide) rfl ?_
        refine xP.pick (lv' := [(0, rv x0), (1, .int x1), (2, .int x2), (3, .int x3), (4, .int (aI h (fR h x0 3103) (Int32.toNatClampNeg x2))), (5, .long (fJ h6 x0 3177)), (7, .double (fD h6 x0 3179)), (9, .int (fI h6 x0 3180)), (10, .long (fJ h18 x0 3177)), (12, .long (-1))]) [6, 7, 8, 9, 5, 4, 3, 2, 0, 1] rfl ?_
        exact uX12_writeText_85 hq
      · replace hq := hq.2 c22
        exact x_vret rfl dX12_writeText_78 hq
  · replace hq := hq.2 c10
    exact x_vret rfl dX12_writeText_21 hq
theorem rX12_writeText {G : xG} {fr lo : Nat} {x0 : Nat} {x1 : Int32} {x2 : Int32} {x3 : Int32} {h : xH} {Q : Outcome → xH → Prop} (hq : bX12_writeText G fr lo x0 x1 x2 x3 h Q) : xR G YX12_writeText fr lo [rv x0, .int x1, .int x2, .int x3] h Q := by
  show xP _ _ _ _ _ (lv_args 0 _) _ _ _
  rw [show lv_args 0 [rv x0, .int x1, .int x2, .int x3] = [(0, rv x0), (1, .int x1), (2, .int x2), (3, .int x3)] from (xla1 (rv_cat _) (xla1 rfl (xla1 rfl (xla1 rfl xla0))))]
  exact uX12_writeText hq
set_option maxRecDepth 100000 in
theorem dX12_layOut_0 : decode cX12_layOut 0 = .ok (.iload 5, 2) := by decide +kernel
set_option maxRecDepth 100000 in
theorem dX12_layOut_2 : decode cX12_layOut 2 = .ok (.ifCond .eq 14, 3) := by decide +kernel
set_option maxRecDepth 100000 in
theorem dX12_layOut_5 : decode cX12_layOut 5 = .ok (.iload_n 3, 1) := by decide +kernel
set_option maxRecDepth 100000 in
theorem dX12_layOut_6 : decode cX12_layOut 6 = .ok (.iload 4, 2) := by decide +kernel
set_option maxRecDepth 100000 in
theorem dX12_layOut_8 : decode cX12_layOut 8 = .ok (.if_icmp .le 8, 3) := by decide +kernel
set_option maxRecDepth 100000 in
theorem dX12_layOut_11 : decode cX12_layOut 11 = .ok (.iload 4, 2) := by decide +kernel
set_option maxRecDepth 100000 in
theorem dX12_layOut_13 : decode cX12_layOut 13 = .ok (.goto 4, 3) := by decide +kernel
set_option maxRecDepth 100000 in
theorem dX12_layOut_16 : decode cX12_layOut 16 = .ok (.iload_n 3, 1) := by decide +kernel
set_option maxRecDepth 100000 in
theorem dX12_layOut_17 : decode cX12_layOut 17 = .ok (.istore 7, 2) := by decide +kernel
set_option maxRecDepth 100000 in
theorem dX12_layOut_19 : decode cX12_layOut 19 = .ok (.iload 4, 2) := by decide +kernel
set_option maxRecDepth 100000 in
theorem dX12_layOut_21 : decode cX12_layOut 21 = .ok (.iload 7, 2) := by decide +kernel
set_option maxRecDepth 100000 in
theorem dX12_layOut_23 : decode cX12_layOut 23 = .ok (.if_icmp .le 11, 3) := by decide +kernel
set_option maxRecDepth 100000 in
theorem dX12_layOut_26 : decode cX12_layOut 26 = .ok (.iload 4, 2) := by decide +kernel
set_option maxRecDepth 100000 in
theorem dX12_layOut_28 : decode cX12_layOut 28 = .ok (.iload 7, 2) := by decide +kernel
set_option maxRecDepth 100000 in
theorem dX12_layOut_30 : decode cX12_layOut 30 = .ok (.isub, 1) := by decide +kernel
set_option maxRecDepth 100000 in
theorem dX12_layOut_31 : decode cX12_layOut 31 = .ok (.goto 4, 3) := by decide +kernel
set_option maxRecDepth 100000 in
theorem dX12_layOut_34 : decode cX12_layOut 34 = .ok (.iconst 0, 1) := by decide +kernel
set_option maxRecDepth 100000 in
theorem dX12_layOut_35 : decode cX12_layOut 35 = .ok (.istore 8, 2) := by decide +kernel
set_option maxRecDepth 100000 in
theorem dX12_layOut_37 : decode cX12_layOut 37 = .ok (.aload_n 0, 1) := by decide +kernel
set_option maxRecDepth 100000 in
theorem dX12_layOut_38 : decode cX12_layOut 38 = .ok (.iload_n 1, 1) := by decide +kernel
set_option maxRecDepth 100000 in
theorem dX12_layOut_39 : decode cX12_layOut 39 = .ok (.iload 8, 2) := by decide +kernel
set_option maxRecDepth 100000 in
theorem dX12_layOut_41 : decode cX12_layOut 41 = .ok (.iload 7, 2) := by decide +kernel
set_option maxRecDepth 100000 in
theorem dX12_layOut_43 : decode cX12_layOut 43 = .ok (.iadd, 1) := by decide +kernel
set_option maxRecDepth 100000 in
theorem dX12_layOut_44 : decode cX12_layOut 44 = .ok (.invokevirtual 1210, 3) := by decide +kernel
set_option maxRecDepth 100000 in
theorem dX12_layOut_47 : decode cX12_layOut 47 = .ok (.ifCond .ne 12, 3) := by decide +kernel
set_option maxRecDepth 100000 in
theorem dX12_layOut_50 : decode cX12_layOut 50 = .ok (.aload_n 0, 1) := by decide +kernel
set_option maxRecDepth 100000 in
theorem dX12_layOut_51 : decode cX12_layOut 51 = .ok (.bipush 14, 2) := by decide +kernel
set_option maxRecDepth 100000 in
theorem dX12_layOut_53 : decode cX12_layOut 53 = .ok (.iload 6, 2) := by decide +kernel
set_option maxRecDepth 100000 in
theorem dX12_layOut_55 : decode cX12_layOut 55 = .ok (.invokevirtual 1142, 3) := by decide +kernel
set_option maxRecDepth 100000 in
theorem dX12_layOut_58 : decode cX12_layOut 58 = .ok (.return_, 1) := by decide +kernel
set_option maxRecDepth 100000 in
theorem dX12_layOut_59 : decode cX12_layOut 59 = .ok (.iconst 0, 1) := by decide +kernel
set_option maxRecDepth 100000 in
theorem dX12_layOut_60 : decode cX12_layOut 60 = .ok (.istore 9, 2) := by decide +kernel
set_option maxRecDepth 100000 in
theorem dX12_layOut_62 : decode cX12_layOut 62 = .ok (.iload 9, 2) := by decide +kernel
set_option maxRecDepth 100000 in
theorem dX12_layOut_64 : decode cX12_layOut 64 = .ok (.iload 8, 2) := by decide +kernel
set_option maxRecDepth 100000 in
theorem dX12_layOut_66 : decode cX12_layOut 66 = .ok (.if_icmp .ge 16, 3) := by decide +kernel
set_option maxRecDepth 100000 in
theorem dX12_layOut_69 : decode cX12_layOut 69 = .ok (.aload_n 0, 1) := by decide +kernel
set_option maxRecDepth 100000 in
theorem dX12_layOut_70 : decode cX12_layOut 70 = .ok (.iload_n 1, 1) := by decide +kernel
set_option maxRecDepth 100000 in
theorem dX12_layOut_71 : decode cX12_layOut 71 = .ok (.bipush 32, 2) := by decide +kernel
set_option maxRecDepth 100000 in
theorem dX12_layOut_73 : decode cX12_layOut 73 = .ok (.invokevirtual 1198, 3) := by decide +kernel
set_option maxRecDepth 100000 in
theorem dX12_layOut_76 : decode cX12_layOut 76 = .ok (.iinc 9 1, 3) := by decide +kernel
set_option maxRecDepth 100000 in
theorem dX12_layOut_79 : decode cX12_layOut 79 = .ok (.goto (-17), 3) := by decide +kernel
set_option maxRecDepth 100000 in
theorem dX12_layOut_82 : decode cX12_layOut 82 = .ok (.iconst 0, 1) := by decide +kernel
set_option maxRecDepth 100000 in
theorem dX12_layOut_83 : decode cX12_layOut 83 = .ok (.istore 9, 2) := by decide +kernel
set_option maxRecDepth 100000 in
theorem dX12_layOut_85 : decode cX12_layOut 85 = .ok (.iload 9, 2) := by decide +kernel
set_option maxRecDepth 100000 in
theorem dX12_layOut_87 : decode cX12_layOut 87 = .ok (.iload 7, 2) := by decide +kernel
set_option maxRecDepth 100000 in
theorem dX12_layOut_89 : decode cX12_layOut 89 = .ok (.if_icmp .ge 36, 3) := by decide +kernel
set_option maxRecDepth 100000 in
theorem dX12_layOut_92 : decode cX12_layOut 92 = .ok (.aload_n 0, 1) := by decide +kernel
set_option maxRecDepth 100000 in
theorem dX12_layOut_93 : decode cX12_layOut 93 = .ok (.iload_n 1, 1) := by decide +kernel
set_option maxRecDepth 100000 in
theorem dX12_layOut_94 : decode cX12_layOut 94 = .ok (.iload_n 2, 1) := by decide +kernel
set_option maxRecDepth 100000 in
theorem dX12_layOut_95 : decode cX12_layOut 95 = .ok (.iconst (-1), 1) := by decide +kernel
set_option maxRecDepth 100000 in
theorem dX12_layOut_96 : decode cX12_layOut 96 = .ok (.if_icmp .ne 13, 3) := by decide +kernel
set_option maxRecDepth 100000 in
theorem dX12_layOut_99 : decode cX12_layOut 99 = .ok (.aload_n 0, 1) := by decide +kernel
set_option maxRecDepth 100000 in
theorem dX12_layOut_100 : decode cX12_layOut 100 = .ok (.getfield 244, 3) := by decide +kernel
set_option maxRecDepth 100000 in
theorem dX12_layOut_103 : decode cX12_layOut 103 = .ok (.iload 9, 2) := by decide +kernel
set_option maxRecDepth 100000 in
theorem dX12_layOut_105 : decode cX12_layOut 105 = .ok (.iaload, 1) := by decide +kernel
set_option maxRecDepth 100000 in
theorem dX12_layOut_106 : decode cX12_layOut 106 = .ok (.goto 10, 3) := by decide +kernel
set_option maxRecDepth 100000 in
theorem dX12_layOut_109 : decode cX12_layOut 109 = .ok (.aload_n 0, 1) := by decide +kernel
set_option maxRecDepth 100000 in
theorem dX12_layOut_110 : decode cX12_layOut 110 = .ok (.iload_n 2, 1) := by decide +kernel
set_option maxRecDepth 100000 in
theorem dX12_layOut_111 : decode cX12_layOut 111 = .ok (.iload 9, 2) := by decide +kernel
set_option maxRecDepth 100000 in
theorem dX12_layOut_113 : decode cX12_layOut 113 = .ok (.invokevirtual 1296, 3) := by decide +kernel
set_option maxRecDepth 100000 in
theorem dX12_layOut_116 : decode cX12_layOut 116 = .ok (.invokevirtual 1198, 3) := by decide +kernel
set_option maxRecDepth 100000 in
theorem dX12_layOut_119 : decode cX12_layOut 119 = .ok (.iinc 9 1, 3) := by decide +kernel
set_option maxRecDepth 100000 in
theorem dX12_layOut_122 : decode cX12_layOut 122 = .ok (.goto (-37), 3) := by decide +kernel
set_option maxRecDepth 100000 in
theorem dX12_layOut_125 : decode cX12_layOut 125 = .ok (.return_, 1) := by decide +kernel
def lX12_layOut_62 (G : xG) (fr lo : Nat) (x0 : Nat) (x1 : Int32) (x2 : Int32) (x7 : Int32) (x8 : Int32) (x9 : Int32) (h : xH) (Q : Outcome → xH → Prop) : Prop := xP G YX12_layOut fr lo 62 [(0, rv x0), (1, .int x1), (2, .int x2), (7, .int x7), (8, .int x8), (9, .int x9)] [] h Q
def lX12_layOut_85 (G : xG) (fr lo : Nat) (x0 : Nat) (x1 : Int32) (x2 : Int32) (x7 : Int32) (x9 : Int32) (h : xH) (Q : Outcome → xH → Prop) : Prop := xP G YX12_layOut fr lo 85 [(0, rv x0), (1, .int x1), (2, .int x2), (7, .int x7), (9, .int x9)] [] h Q
set_option maxRecDepth 100000 in
def bX12_layOut_116 (G : xG) (fr lo : Nat) (x0 : Nat) (x1 : Int32) (x2 : Int32) (x7 : Int32) (x9 : Int32) (s0 : Int32) (s1 : Int32) (s2 : Nat) (h : xH) (Q : Outcome → xH → Prop) : Prop := tg h s2 = 13 ∧ 1 ≤ fr ∧ 15 ≤ lo ∧ xRv G YX12_linkByte (fr - 1) (lo - 15) [rv s2, .int s1, .int s0] h (fun h4 => xext h h4 → lX12_layOut_85 G fr lo x0 x1 x2 x7 (x9 + 1) h4 Q) (fun r h2 => Q (.threw r) h2)
set_option maxRecDepth 100000 in
theorem uX12_layOut_116 {G : xG} {fr lo : Nat} {x0 : Nat} {x1 : Int32} {x2 : Int32} {x7 : Int32} {x9 : Int32} {s0 : Int32} {s1 : Int32} {s2 : Nat} {h : xH} {Q : Outcome → xH → Prop} (hq : bX12_layOut_116 G fr lo x0 x1 x2 x7 x9 s0 s1 s2 h Q) : xP G YX12_layOut fr lo 116 [(0, rv x0), (1, .int x1), (2, .int x2), (7, .int x7), (9, .int x9)] [.int s0, .int s1, rv s2] h Q := by
  unfold bX12_layOut_116 at hq
  obtain ⟨g1, hq⟩ := hq
  obtain ⟨g2, g3, hq⟩ := hq
  refine x_callV (Yc := YX12_linkByte) (as := [.int s1, .int s0]) (st := []) q4514 mvX12_linkByte g1 rfl dX12_layOut_116 (xle (xal1 (rv_cat _) (xal1 rfl (xal1 rfl xal0))) (by decide)) (xfr g2) (xlo xsw0 (by decide) g3) (xKv hq (fun h4 hq e6 => ?_) (fun _ _ q _ => q))
  replace hq := hq e6
  refine x_iinc (lv' := [(9, .int (x9 + 1)), (0, rv x0), (1, .int x1), (2, .int x2), (7, .int x7)]) 4 dX12_layOut_119 rfl (by decide) rfl ?_
  refine x_goto (tgt := 85) dX12_layOut_122 (by decide) ?_
  refine xP.pick (lv' := [(0, rv x0), (1, .int x1), (2, .int x2), (7, .int x7), (9, .int (x9 + 1))]) [1, 2, 3, 4, 0] rfl ?_
  exact hq
set_option maxRecDepth 100000 in
def bX12_layOut_85 (G : xG) (fr lo : Nat) (x0 : Nat) (x1 : Int32) (x2 : Int32) (x7 : Int32) (x9 : Int32) (h : xH) (Q : Outcome → xH → Prop) : Prop := ((x7 ≤ x9 → Q (.returned none) h) ∧ (¬ x7 ≤ x9 → ((¬ x2 = (-1) → tg h x0 = 13 ∧ 1 ≤ fr ∧ 16 ≤ lo ∧ xRi G YX12_signAt (fr - 1) (lo - 16) [rv x0, .int x2, .int x9] h (fun x7 h6 => xext h h6 → bX12_layOut_116 G fr lo x0 x1 x2 x7 x9 x7 x1 x0 h6 Q) (fun r h2 => Q (.threw r) h2)) ∧ (x2 = (-1) → tg h x0 = 13 ∧ tg h (fR h x0 3199) = 100 ∧ vp_in x9 (ln h (fR h x0 3199)) ∧ bX12_layOut_116 G fr lo x0 x1 x2 x7 x9 (aI h (fR h x0 3199) (Int32.toNatClampNeg x9)) x1 x0 h Q))))
set_option maxRecDepth 100000 in
theorem uX12_layOut_85 {G : xG} {fr lo : Nat} {x0 : Nat} {x1 : Int32} {x2 : Int32} {x7 : Int32} {x9 : Int32} {h : xH} {Q : Outcome → xH → Prop} (hq : bX12_layOut_85 G fr lo x0 x1 x2 x7 x9 h Q) : xP G YX12_layOut fr lo 85 [(0, rv x0), (1, .int x1), (2, .int x2), (7, .int x7), (9, .int x9)] [] h Q := by
  unfold bX12_layOut_85 at hq
  refine x_iload 4 dX12_layOut_85 rfl ?_
  refine x_iload 3 dX12_layOut_87 rfl ?_
  refine x_icmp_ge (tgt := 125) dX12_layOut_89 (by decide) (fun c1 => ?_) (fun c1 => ?_)
  · replace hq := hq.1 c1
    exact x_vret rfl dX12_layOut_125 hq
  · replace hq := hq.2 c1
    refine x_aload_n 0 dX12_layOut_92 rfl ?_
    refine x_iload_n 1 dX12_layOut_93 rfl ?_
    refine x_iload_n 2 dX12_layOut_94 rfl ?_
    refine x_iconst (v := (-1)) dX12_layOut_95 (by decide) ?_
    refine x_icmp_ne (tgt := 109) dX12_layOut_96 (by decide) (fun c2 => ?_) (fun c2 => ?_)
    · replace hq := hq.1 c2
      refine x_aload_n 0 dX12_layOut_109 rfl ?_
      refine x_iload_n 2 dX12_layOut_110 rfl ?_
      refine x_iload 4 dX12_layOut_111 rfl ?_
      obtain ⟨g3, hq⟩ := hq
      obtain ⟨g4, g5, hq⟩ := hq
      refine x_callV (Yc := YX12_signAt) (as := [.int x2, .int x9]) (st := [.int x1, rv x0]) q4686 mvX12_signAt g3 rfl dX12_layOut_113 (xle (xal1 (rv_cat _) (xal1 rfl (xal1 rfl xal0))) (by decide)) (xfr g4) (xlo (xsw1 rfl (xsw1 (rv_cat _) xsw0)) (by decide) g5) (xKi hq (fun x7 h6 hq e8 => ?_) (fun _ _ q _ => q))
      replace hq := hq e8
      exact uX12_layOut_116 hq
    · replace hq := hq.2 c2
      refine x_aload_n 0 dX12_layOut_99 rfl ?_
      obtain ⟨g9, hq⟩ := hq
      refine x_get (v := rv (fR h x0 3199)) fdX12_244 dX12_layOut_100 g9 rfl ?_
      refine x_iload 4 dX12_layOut_103 rfl ?_
      obtain ⟨g10, hq⟩ := hq
      obtain ⟨i11, hq⟩ := hq
      refine x_iald 0 (Or.inl rfl) g10 i11 dX12_layOut_105 ?_
      refine x_goto (tgt := 116) dX12_layOut_106 (by decide) ?_
      exact uX12_layOut_116 hq
set_option maxRecDepth 100000 in
def bX12_layOut_62 (G : xG) (fr lo : Nat) (x0 : Nat) (x1 : Int32) (x2 : Int32) (x7 : Int32) (x8 : Int32) (x9 : Int32) (h : xH) (Q : Outcome → xH → Prop) : Prop := ((x8 ≤ x9 → lX12_layOut_85 G fr lo x0 x1 x2 x7 0 h Q) ∧ (¬ x8 ≤ x9 → tg h x0 = 13 ∧ 1 ≤ fr ∧ 15 ≤ lo ∧ xRv G YX12_linkByte (fr - 1) (lo - 15) [rv x0, .int x1, .int 32] h (fun h5 => xext h h5 → lX12_layOut_62 G fr lo x0 x1 x2 x7 x8 (x9 + 1) h5 Q) (fun r h2 => Q (.threw r) h2)))
set_option maxRecDepth 100000 in
theorem uX12_layOut_62 {G : xG} {fr lo : Nat} {x0 : Nat} {x1 : Int32} {x2 : Int32} {x7 : Int32} {x8 : Int32} {x9 : Int32} {h : xH} {Q : Outcome → xH → Prop} (hq : bX12_layOut_62 G fr lo x0 x1 x2 x7 x8 x9 h Q) : xP G YX12_layOut fr lo 62 [(0, rv x0), (1, .int x1), (2, .int x2), (7, .int x7), (8, .int x8), (9, .int x9)] [] h Q := by
  unfold bX12_layOut_62 at hq
  refine x_iload 5 dX12_layOut_62 rfl ?_
  refine x_iload 4 dX12_layOut_64 rfl ?_
  refine x_icmp_ge (tgt := 82) dX12_layOut_66 (by decide) (fun c1 => ?_) (fun c1 => ?_)
  · replace hq := hq.1 c1
    refine x_iconst (v := 0) dX12_layOut_82 (by decide) ?_
    refine x_istore (lv' := [(9, .int 0), (0, rv x0), (1, .int x1), (2, .int x2), (7, .int x7), (8, .int x8)]) dX12_layOut_83 (by decide) rfl ?_
    refine xP.pick (lv' := [(0, rv x0), (1, .int x1), (2, .int x2), (7, .int x7), (9, .int 0)]) [1, 2, 3, 4, 0] rfl ?_
    exact hq
  · replace hq := hq.2 c1
    refine x_aload_n 0 dX12_layOut_69 rfl ?_
    refine x_iload_n 1 dX12_layOut_70 rfl ?_
    refine x_bipush (v := 32) dX12_layOut_71 (by decide) ?_
    obtain ⟨g2, hq⟩ := hq
    obtain ⟨g3, g4, hq⟩ := hq
    refine x_callV (Yc := YX12_linkByte) (as := [.int x1, .int 32]) (st := []) q4514 mvX12_linkByte g2 rfl dX12_layOut_73 (xle (xal1 (rv_cat _) (xal1 rfl (xal1 rfl xal0))) (by decide)) (xfr g3) (xlo xsw0 (by decide) g4) (xKv hq (fun h5 hq e7 => ?_) (fun _ _ q _ => q))
    replace hq := hq e7
    refine x_iinc (lv' := [(9, .int (x9 + 1)), (0, rv x0), (1, .int x1), (2, .int x2), (7, .int x7), (8, .int x8)]) 5 dX12_layOut_76 rfl (by decide) rfl ?_
    refine x_goto (tgt := 62) dX12_layOut_79 (by decide) ?_
    refine xP.pick (lv' := [(0, rv x0), (1, .int x1), (2, .int x2), (7, .int x7), (8, .int x8), (9, .int (x9 + 1))]) [1, 2, 3, 4, 5, 0] rfl ?_
    exact hq
set_option maxRecDepth 100000 in
def bX12_layOut_35 (G : xG) (fr lo : Nat) (x0 : Nat) (x1 : Int32) (x2 : Int32) (x6 : Int32) (x7 : Int32) (s0 : Int32) (h : xH) (Q : Outcome → xH → Prop) : Prop := tg h x0 = 13 ∧ 1 ≤ fr ∧ 14 ≤ lo ∧ xRi G YX12_hasRoom (fr - 1) (lo - 14) [rv x0, .int x1, .int (s0 + x7)] h (fun x5 h4 => xext h h4 → ((¬ x5 = 0 → lX12_layOut_62 G fr lo x0 x1 x2 x7 s0 0 h4 Q) ∧ (x5 = 0 → 1 ≤ fr ∧ 14 ≤ lo ∧ xRv G YX12_error (fr - 1) (lo - 14) [rv x0, .int 14, .int x6] h4 (fun h11 => xext h4 h11 → Q (.returned none) h11) (fun r h2 => Q (.threw r) h2)))) (fun r h2 => Q (.threw r) h2)
set_option maxRecDepth 100000 in
theorem uX12_layOut_35 {G : xG} {fr lo : Nat} {x0 : Nat} {x1 : Int32} {x2 : Int32} {x6 : Int32} {x7 : Int32} {s0 : Int32} {h : xH} {Q : Outcome → xH → Prop} (hq : bX12_layOut_35 G fr lo x0 x1 x2 x6 x7 s0 h Q) : xP G YX12_layOut fr lo 35 [(0, rv x0), (1, .int x1), (2, .int x2), (6, .int x6), (7, .int x7)] [.int s0] h Q := by
  unfold bX12_layOut_35 at hq
  refine x_istore (lv' := [(8, .int s0), (0, rv x0), (1, .int x1), (2, .int x2), (6, .int x6), (7, .int x7)]) dX12_layOut_35 (by decide) rfl ?_
  refine x_aload_n 1 dX12_layOut_37 rfl ?_
  refine x_iload_n 2 dX12_layOut_38 rfl ?_
  refine x_iload 0 dX12_layOut_39 rfl ?_
  refine x_iload 5 dX12_layOut_41 rfl ?_
  refine x_iadd dX12_layOut_43 ?_
  obtain ⟨g1, hq⟩ := hq
  obtain ⟨g2, g3, hq⟩ := hq
  refine x_callV (Yc := YX12_hasRoom) (as := [.int x1, .int (s0 + x7)]) (st := []) q4770 mvX12_hasRoom g1 rfl dX12_layOut_44 (xle (xal1 (rv_cat _) (xal1 rfl (xal1 rfl xal0))) (by decide)) (xfr g2) (xlo xsw0 (by decide) g3) (xKi hq (fun x5 h4 hq e6 => ?_) (fun _ _ q _ => q))
  replace hq := hq e6
  refine x_if_ne (tgt := 59) dX12_layOut_47 (by decide) (fun c7 => ?_) (fun c7 => ?_)
  · replace hq := hq.1 c7
    refine x_iconst (v := 0) dX12_layOut_59 (by decide) ?_
    refine x_istore (lv' := [(9, .int 0), (8, .int s0), (0, rv x0), (1, .int x1), (2, .int x2), (6, .int x6), (7, .int x7)]) dX12_layOut_60 (by decide) rfl ?_
    refine xP.pick (lv' := [(0, rv x0), (1, .int x1), (2, .int x2), (7, .int x7), (8, .int s0), (9, .int 0)]) [2, 3, 4, 6, 1, 0] rfl ?_
    exact hq
  · replace hq := hq.2 c7
    refine x_aload_n 1 dX12_layOut_50 rfl ?_
    refine x_bipush (v := 14) dX12_layOut_51 (by decide) ?_
    refine x_iload 4 dX12_layOut_53 rfl ?_
    have t8 : tg h4 x0 = 13 := e6.tg g1 (by decide)
    obtain ⟨g9, g10, hq⟩ := hq
    refine x_callV (Yc := YX12_error) (as := [.int 14, .int x6]) (st := []) q4490 mvX12_error t8 rfl dX12_layOut_55 (xle (xal1 (rv_cat _) (xal1 rfl (xal1 rfl xal0))) (by decide)) (xfr g9) (xlo xsw0 (by decide) g10) (xKv hq (fun h11 hq e13 => ?_) (fun _ _ q _ => q))
    replace hq := hq e13
    exact x_vret rfl dX12_layOut_58 hq
set_option maxRecDepth 100000 in
def bX12_layOut_17 (G : xG) (fr lo : Nat) (x0 : Nat) (x1 : Int32) (x2 : Int32) (x4 : Int32) (x6 : Int32) (s0 : Int32) (h : xH) (Q : Outcome → xH → Prop) : Prop := ((x4 ≤ s0 → bX12_layOut_35 G fr lo x0 x1 x2 x6 s0 0 h Q) ∧ (¬ x4 ≤ s0 → bX12_layOut_35 G fr lo x0 x1 x2 x6 s0 (x4 - s0) h Q))
set_option maxRecDepth 100000 in
theorem uX12_layOut_17 {G : xG} {fr lo : Nat} {x0 : Nat} {x1 : Int32} {x2 : Int32} {x4 : Int32} {x6 : Int32} {s0 : Int32} {h : xH} {Q : Outcome → xH → Prop} (hq : bX12_layOut_17 G fr lo x0 x1 x2 x4 x6 s0 h Q) : xP G YX12_layOut fr lo 17 [(0, rv x0), (1, .int x1), (2, .int x2), (4, .int x4), (6, .int x6)] [.int s0] h Q := by
  unfold bX12_layOut_17 at hq
  refine x_istore (lv' := [(7, .int s0), (0, rv x0), (1, .int x1), (2, .int x2), (4, .int x4), (6, .int x6)]) dX12_layOut_17 (by decide) rfl ?_
  refine x_iload 4 dX12_layOut_19 rfl ?_
  refine x_iload 0 dX12_layOut_21 rfl ?_
  refine x_icmp_le (tgt := 34) dX12_layOut_23 (by decide) (fun c1 => ?_) (fun c1 => ?_)
  · replace hq := hq.1 c1
    refine x_iconst (v := 0) dX12_layOut_34 (by decide) ?_
    refine xP.pick (lv' := [(0, rv x0), (1, .int x1), (2, .int x2), (6, .int x6), (7, .int s0)]) [1, 2, 3, 5, 0] rfl ?_
    exact uX12_layOut_35 hq
  · replace hq := hq.2 c1
    refine x_iload 4 dX12_layOut_26 rfl ?_
    refine x_iload 0 dX12_layOut_28 rfl ?_
    refine x_isub dX12_layOut_30 ?_
    refine x_goto (tgt := 35) dX12_layOut_31 (by decide) ?_
    refine xP.pick (lv' := [(0, rv x0), (1, .int x1), (2, .int x2), (6, .int x6), (7, .int s0)]) [1, 2, 3, 5, 0] rfl ?_
    exact uX12_layOut_35 hq
set_option maxRecDepth 100000 in
def bX12_layOut_16 (G : xG) (fr lo : Nat) (x0 : Nat) (x1 : Int32) (x2 : Int32) (x3 : Int32) (x4 : Int32) (x6 : Int32) (h : xH) (Q : Outcome → xH → Prop) : Prop := bX12_layOut_17 G fr lo x0 x1 x2 x4 x6 x3 h Q
set_option maxRecDepth 100000 in
theorem uX12_layOut_16 {G : xG} {fr lo : Nat} {x0 : Nat} {x1 : Int32} {x2 : Int32} {x3 : Int32} {x4 : Int32} {x6 : Int32} {h : xH} {Q : Outcome → xH → Prop} (hq : bX12_layOut_16 G fr lo x0 x1 x2 x3 x4 x6 h Q) : xP G YX12_layOut fr lo 16 [(0, rv x0), (1, .int x1), (2, .int x2), (3, .int x3), (4, .int x4), (6, .int x6)] [] h Q := by
  unfold bX12_layOut_16 at hq
  refine x_iload_n 3 dX12_layOut_16 rfl ?_
  refine xP.pick (lv' := [(0, rv x0), (1, .int x1), (2, .int x2), (4, .int x4), (6, .int x6)]) [0, 1, 2, 4, 5] rfl ?_
  exact uX12_layOut_17 hq
set_option maxRecDepth 100000 in
def bX12_layOut (G : xG) (fr lo : Nat) (x0 : Nat) (x1 : Int32) (x2 : Int32) (x3 : Int32) (x4 : Int32) (x5 : Int32) (x6 : Int32) (h : xH) (Q : Outcome → xH → Prop) : Prop := ((x5 = 0 → bX12_layOut_16 G fr lo x0 x1 x2 x3 x4 x6 h Q) ∧ (¬ x5 = 0 → ((x3 ≤ x4 → bX12_layOut_16 G fr lo x0 x1 x2 x3 x4 x6 h Q) ∧ (¬ x3 ≤ x4 → bX12_layOut_17 G fr lo x0 x1 x2 x4 x6 x4 h Q))))
set_option maxRecDepth 100000 in
theorem uX12_layOut {G : xG} {fr lo : Nat} {x0 : Nat} {x1 : Int32} {x2 : Int32} {x3 : Int32} {x4 : Int32} {x5 : Int32} {x6 : Int32} {h : xH} {Q : Outcome → xH → Prop} (hq : bX12_layOut G fr lo x0 x1 x2 x3 x4 x5 x6 h Q) : xP G YX12_layOut fr lo 0 [(0, rv x0), (1, .int x1), (2, .int x2), (3, .int x3), (4, .int x4), (5, .int x5), (6, .int x6)] [] h Q := by
  unfold bX12_layOut at hq
  refine x_iload 5 dX12_layOut_0 rfl ?_
  refine x_if_eq (tgt := 16) dX12_layOut_2 (by decide) (fun c1 => ?_) (fun c1 => ?_)
  · replace hq := hq.1 c1
    refine xP.pick (lv' := [(0, rv x0), (1, .int x1), (2, .int x2), (3, .int x3), (4, .int x4), (6, .int x6)]) [0, 1, 2, 3, 4, 6] rfl ?_
    exact uX12_layOut_16 hq
  · replace hq := hq.2 c1
    refine x_iload_n 3 dX12_layOut_5 rfl ?_
    refine x_iload 4 dX12_layOut_6 rfl ?_
    refine x_icmp_le (tgt := 16) dX12_layOut_8 (by decide) (fun c2 => ?_) (fun c2 => ?_)
    · replace hq := hq.1 c2
      refine xP.pick (lv' := [(0, rv x0), (1, .int x1), (2, .int x2), (3, .int x3), (4, .int x4), (6, .int x6)]) [0, 1, 2, 3, 4, 6] rfl ?_
      exact uX12_layOut_16 hq
    · replace hq := hq.2 c2
      refine x_iload 4 dX12_layOut_11 rfl ?_
      refine x_goto (tgt := 17) dX12_layOut_13 (by decide) ?_
      refine xP.pick (lv' := [(0, rv x0), (1, .int x1), (2, .int x2), (4, .int x4), (6, .int x6)]) [0, 1, 2, 4, 6] rfl ?_
      exact uX12_layOut_17 hq
theorem rX12_layOut {G : xG} {fr lo : Nat} {x0 : Nat} {x1 : Int32} {x2 : Int32} {x3 : Int32} {x4 : Int32} {x5 : Int32} {x6 : Int32} {h : xH} {Q : Outcome → xH → Prop} (hq : bX12_layOut G fr lo x0 x1 x2 x3 x4 x5 x6 h Q) : xR G YX12_layOut fr lo [rv x0, .int x1, .int x2, .int x3, .int x4, .int x5, .int x6] h Q := by
  show xP _ _ _ _ _ (lv_args 0 _) _ _ _
  rw [show lv_args 0 [rv x0, .int x1, .int x2, .int x3, .int x4, .int x5, .int x6] = [(0, rv x0), (1, .int x1), (2, .int x2), (3, .int x3), (4, .int x4), (5, .int x5), (6, .int x6)] from (xla1 (rv_cat _) (xla1 rfl (xla1 rfl (xla1 rfl (xla1 rfl (xla1 rfl (xla1 rfl xla0)))))))]
  exact uX12_layOut hq
set_option maxRecDepth 100000 in
theorem dX12_hasRoom_0 : decode cX12_hasRoom 0 = .ok (.aload_n 0, 1) := by decide +kernel
set_option maxRecDepth 100000 in
theorem dX12_hasRoom_1 : decode cX12_hasRoom 1 = .ok (.getfield 216, 3) := by decide +kernel
set_option maxRecDepth 100000 in
theorem dX12_hasRoom_4 : decode cX12_hasRoom 4 = .ok (.iload_n 1, 1) := by decide +kernel
set_option maxRecDepth 100000 in
theorem dX12_hasRoom_5 : decode cX12_hasRoom 5 = .ok (.iaload, 1) := by decide +kernel
set_option maxRecDepth 100000 in
theorem dX12_hasRoom_6 : decode cX12_hasRoom 6 = .ok (.iload_n 2, 1) := by decide +kernel
set_option maxRecDepth 100000 in
theorem dX12_hasRoom_7 : decode cX12_hasRoom 7 = .ok (.iadd, 1) := by decide +kernel
set_option maxRecDepth 100000 in
theorem dX12_hasRoom_8 : decode cX12_hasRoom 8 = .ok (.sipush 3000, 3) := by decide +kernel
set_option maxRecDepth 100000 in
theorem dX12_hasRoom_11 : decode cX12_hasRoom 11 = .ok (.if_icmp .gt 19, 3) := by decide +kernel
set_option maxRecDepth 100000 in
theorem dX12_hasRoom_14 : decode cX12_hasRoom 14 = .ok (.aload_n 0, 1) := by decide +kernel
set_option maxRecDepth 100000 in
theorem dX12_hasRoom_15 : decode cX12_hasRoom 15 = .ok (.getfield 1186, 3) := by decide +kernel
set_option maxRecDepth 100000 in
theorem dX12_hasRoom_18 : decode cX12_hasRoom 18 = .ok (.iload_n 2, 1) := by decide +kernel
set_option maxRecDepth 100000 in
theorem dX12_hasRoom_19 : decode cX12_hasRoom 19 = .ok (.iadd, 1) := by decide +kernel
set_option maxRecDepth 100000 in
theorem dX12_hasRoom_20 : decode cX12_hasRoom 20 = .ok (.sipush 30000, 3) := by decide +kernel
set_option maxRecDepth 100000 in
theorem dX12_hasRoom_23 : decode cX12_hasRoom 23 = .ok (.if_icmp .gt 7, 3) := by decide +kernel
set_option maxRecDepth 100000 in
theorem dX12_hasRoom_26 : decode cX12_hasRoom 26 = .ok (.iconst 1, 1) := by decide +kernel
set_option maxRecDepth 100000 in
theorem dX12_hasRoom_27 : decode cX12_hasRoom 27 = .ok (.goto 4, 3) := by decide +kernel
set_option maxRecDepth 100000 in
theorem dX12_hasRoom_30 : decode cX12_hasRoom 30 = .ok (.iconst 0, 1) := by decide +kernel
set_option maxRecDepth 100000 in
theorem dX12_hasRoom_31 : decode cX12_hasRoom 31 = .ok (.ireturn, 1) := by decide +kernel
set_option maxRecDepth 100000 in
def bX12_hasRoom_31 (G : xG) (fr lo : Nat) (s0 : Int32) (h : xH) (Q : Outcome → xH → Prop) : Prop := xbz s0 ∧ Q (.returned (some (.int s0))) h
set_option maxRecDepth 100000 in
theorem uX12_hasRoom_31 {G : xG} {fr lo : Nat} {s0 : Int32} {h : xH} {Q : Outcome → xH → Prop} (hq : bX12_hasRoom_31 G fr lo s0 h Q) : xP G YX12_hasRoom fr lo 31 [] [.int s0] h Q := by
  unfold bX12_hasRoom_31 at hq
  obtain ⟨g1, hq⟩ := hq
  exact x_iret rfl (xnZ g1) dX12_hasRoom_31 hq
set_option maxRecDepth 100000 in
def bX12_hasRoom_30 (G : xG) (fr lo : Nat) (h : xH) (Q : Outcome → xH → Prop) : Prop := bX12_hasRoom_31 G fr lo 0 h Q
set_option maxRecDepth 100000 in
theorem uX12_hasRoom_30 {G : xG} {fr lo : Nat} {h : xH} {Q : Outcome → xH → Prop} (hq : bX12_hasRoom_30 G fr lo h Q) : xP G YX12_hasRoom fr lo 30 [] [] h Q := by
  unfold bX12_hasRoom_30 at hq
  refine x_iconst (v := 0) dX12_hasRoom_30 (by decide) ?_
  exact uX12_hasRoom_31 hq
set_option maxRecDepth 100000 in
def bX12_hasRoom (G : xG) (fr lo : Nat) (x0 : Nat) (x1 : Int32) (x2 : Int32) (h : xH) (Q : Outcome → xH → Prop) : Prop := tg h x0 = 13 ∧ tg h (fR h x0 3186) = 100 ∧ vp_in x1 (ln h (fR h x0 3186)) ∧ ((3000 < ((aI h (fR h x0 3186) (Int32.toNatClampNeg x1)) + x2) → bX12_hasRoom_30 G fr lo h Q) ∧ (¬ 3000 < ((aI h (fR h x0 3186) (Int32.toNatClampNeg x1)) + x2) → ((30000 < ((fI h x0 3191) + x2) → bX12_hasRoom_30 G fr lo h Q) ∧ (¬ 30000 < ((fI h x0 3191) + x2) → bX12_hasRoom_31 G fr lo 1 h Q))))
set_option maxRecDepth 100000 in
theorem uX12_hasRoom {G : xG} {fr lo : Nat} {x0 : Nat} {x1 : Int32} {x2 : Int32} {h : xH} {Q : Outcome → xH → Prop} (hq : bX12_hasRoom G fr lo x0 x1 x2 h Q) : xP G YX12_hasRoom fr lo 0 [(0, rv x0), (1, .int x1), (2, .int x2)] [] h Q := by
  unfold bX12_hasRoom at hq
  refine x_aload_n 0 dX12_hasRoom_0 rfl ?_
  obtain ⟨g1, hq⟩ := hq
  refine x_get (v := rv (fR h x0 3186)) fdX12_216 dX12_hasRoom_1 g1 rfl ?_
  refine x_iload_n 1 dX12_hasRoom_4 rfl ?_
  obtain ⟨g2, hq⟩ := hq
  obtain ⟨i3, hq⟩ := hq
  refine x_iald 0 (Or.inl rfl) g2 i3 dX12_hasRoom_5 ?_
  refine x_iload_n 2 dX12_hasRoom_6 rfl ?_
  refine x_iadd dX12_hasRoom_7 ?_
  refine x_sipush (v := 3000) dX12_hasRoom_8 (by decide) ?_
  refine x_icmp_gt (tgt := 30) dX12_hasRoom_11 (by decide) (fun c4 => ?_) (fun c4 => ?_)
  · replace hq := hq.1 c4
    refine xP.pick (lv' := []) [] rfl ?_
    exact uX12_hasRoom_30 hq
  · replace hq := hq.2 c4
    refine x_aload_n 0 dX12_hasRoom_14 rfl ?_
    refine x_get (v := .int (fI h x0 3191)) fdX12_1186 dX12_hasRoom_15 g1 rfl ?_
    refine x_iload_n 2 dX12_hasRoom_18 rfl ?_
    refine x_iadd dX12_hasRoom_19 ?_
    refine x_sipush (v := 30000) dX12_hasRoom_20 (by decide) ?_
    refine x_icmp_gt (tgt := 30) dX12_hasRoom_23 (by decide) (fun c5 => ?_) (fun c5 => ?_)
    · replace hq := hq.1 c5
      refine xP.pick (lv' := []) [] rfl ?_
      exact uX12_hasRoom_30 hq
    · replace hq := hq.2 c5
      refine x_iconst (v := 1) dX12_hasRoom_26 (by decide) ?_
      refine x_goto (tgt := 31) dX12_hasRoom_27 (by decide) ?_
      refine xP.pick (lv' := []) [] rfl ?_
      exact uX12_hasRoom_31 hq
theorem rX12_hasRoom {G : xG} {fr lo : Nat} {x0 : Nat} {x1 : Int32} {x2 : Int32} {h : xH} {Q : Outcome → xH → Prop} (hq : bX12_hasRoom G fr lo x0 x1 x2 h Q) : xR G YX12_hasRoom fr lo [rv x0, .int x1, .int x2] h Q := by
  show xP _ _ _ _ _ (lv_args 0 _) _ _ _
  rw [show lv_args 0 [rv x0, .int x1, .int x2] = [(0, rv x0), (1, .int x1), (2, .int x2)] from (xla1 (rv_cat _) (xla1 rfl (xla1 rfl xla0)))]
  exact uX12_hasRoom hq
set_option maxRecDepth 100000 in
theorem dX12_spellReal_0 : decode cX12_spellReal 0 = .ok (.dload_n 1, 1) := by decide +kernel
set_option maxRecDepth 100000 in
theorem dX12_spellReal_1 : decode cX12_spellReal 1 = .ok (.dconst 0, 1) := by decide +kernel
set_option maxRecDepth 100000 in
theorem dX12_spellReal_2 : decode cX12_spellReal 2 = .ok (.dcmp .g, 1) := by decide +kernel
set_option maxRecDepth 100000 in
theorem dX12_spellReal_3 : decode cX12_spellReal 3 = .ok (.ifCond .ge 8, 3) := by decide +kernel
set_option maxRecDepth 100000 in
theorem dX12_spellReal_6 : decode cX12_spellReal 6 = .ok (.dload_n 1, 1) := by decide +kernel
set_option maxRecDepth 100000 in
theorem dX12_spellReal_7 : decode cX12_spellReal 7 = .ok (.dneg, 1) := by decide +kernel
set_option maxRecDepth 100000 in
theorem dX12_spellReal_8 : decode cX12_spellReal 8 = .ok (.goto 4, 3) := by decide +kernel
set_option maxRecDepth 100000 in
theorem dX12_spellReal_11 : decode cX12_spellReal 11 = .ok (.dload_n 1, 1) := by decide +kernel
set_option maxRecDepth 100000 in
theorem dX12_spellReal_12 : decode cX12_spellReal 12 = .ok (.dstore 5, 2) := by decide +kernel
set_option maxRecDepth 100000 in
theorem dX12_spellReal_14 : decode cX12_spellReal 14 = .ok (.iload 4, 2) := by decide +kernel
set_option maxRecDepth 100000 in
theorem dX12_spellReal_16 : decode cX12_spellReal 16 = .ok (.iconst (-1), 1) := by decide +kernel
set_option maxRecDepth 100000 in
theorem dX12_spellReal_17 : decode cX12_spellReal 17 = .ok (.if_icmp .eq 83, 3) := by decide +kernel
set_option maxRecDepth 100000 in
theorem dX12_spellReal_20 : decode cX12_spellReal 20 = .ok (.dload 5, 2) := by decide +kernel
set_option maxRecDepth 100000 in
theorem dX12_spellReal_22 : decode cX12_spellReal 22 = .ok (.ldc2_w 1494, 3) := by decide +kernel
set_option maxRecDepth 100000 in
theorem dX12_spellReal_25 : decode cX12_spellReal 25 = .ok (.dcmp .g, 1) := by decide +kernel
set_option maxRecDepth 100000 in
theorem dX12_spellReal_26 : decode cX12_spellReal 26 = .ok (.ifCond .ge 74, 3) := by decide +kernel
set_option maxRecDepth 100000 in
theorem dX12_spellReal_29 : decode cX12_spellReal 29 = .ok (.iload 4, 2) := by decide +kernel
set_option maxRecDepth 100000 in
theorem dX12_spellReal_31 : decode cX12_spellReal 31 = .ok (.invokestatic 407, 3) := by decide +kernel
set_option maxRecDepth 100000 in
theorem dX12_spellReal_34 : decode cX12_spellReal 34 = .ok (.dstore 7, 2) := by decide +kernel
set_option maxRecDepth 100000 in
theorem dX12_spellReal_36 : decode cX12_spellReal 36 = .ok (.dload 5, 2) := by decide +kernel
set_option maxRecDepth 100000 in
theorem dX12_spellReal_38 : decode cX12_spellReal 38 = .ok (.dload 7, 2) := by decide +kernel
set_option maxRecDepth 100000 in
theorem dX12_spellReal_40 : decode cX12_spellReal 40 = .ok (.dmul, 1) := by decide +kernel
set_option maxRecDepth 100000 in
theorem dX12_spellReal_41 : decode cX12_spellReal 41 = .ok (.ldc2_w 1320, 3) := by decide +kernel
set_option maxRecDepth 100000 in
theorem dX12_spellReal_44 : decode cX12_spellReal 44 = .ok (.dadd, 1) := by decide +kernel
set_option maxRecDepth 100000 in
theorem dX12_spellReal_45 : decode cX12_spellReal 45 = .ok (.d2l, 1) := by decide +kernel
set_option maxRecDepth 100000 in
theorem dX12_spellReal_46 : decode cX12_spellReal 46 = .ok (.lstore 9, 2) := by decide +kernel
set_option maxRecDepth 100000 in
theorem dX12_spellReal_48 : decode cX12_spellReal 48 = .ok (.dload 7, 2) := by decide +kernel
set_option maxRecDepth 100000 in
theorem dX12_spellReal_50 : decode cX12_spellReal 50 = .ok (.d2l, 1) := by decide +kernel
set_option maxRecDepth 100000 in
theorem dX12_spellReal_51 : decode cX12_spellReal 51 = .ok (.lstore 11, 2) := by decide +kernel
set_option maxRecDepth 100000 in
theorem dX12_spellReal_53 : decode cX12_spellReal 53 = .ok (.dload_n 1, 1) := by decide +kernel
set_option maxRecDepth 100000 in
theorem dX12_spellReal_54 : decode cX12_spellReal 54 = .ok (.dconst 0, 1) := by decide +kernel
set_option maxRecDepth 100000 in
theorem dX12_spellReal_55 : decode cX12_spellReal 55 = .ok (.dcmp .g, 1) := by decide +kernel
set_option maxRecDepth 100000 in
theorem dX12_spellReal_56 : decode cX12_spellReal 56 = .ok (.ifCond .ge 16, 3) := by decide +kernel
set_option maxRecDepth 100000 in
theorem dX12_spellReal_59 : decode cX12_spellReal 59 = .ok (.lload 9, 2) := by decide +kernel
set_option maxRecDepth 100000 in
theorem dX12_spellReal_61 : decode cX12_spellReal 61 = .ok (.lconst 0, 1) := by decide +kernel
set_option maxRecDepth 100000 in
theorem dX12_spellReal_62 : decode cX12_spellReal 62 = .ok (.lcmp, 1) := by decide +kernel
set_option maxRecDepth 100000 in
theorem dX12_spellReal_63 : decode cX12_spellReal 63 = .ok (.ifCond .eq 9, 3) := by decide +kernel
set_option maxRecDepth 100000 in
theorem dX12_spellReal_66 : decode cX12_spellReal 66 = .ok (.aload_n 0, 1) := by decide +kernel
set_option maxRecDepth 100000 in
theorem dX12_spellReal_67 : decode cX12_spellReal 67 = .ok (.bipush 45, 2) := by decide +kernel
set_option maxRecDepth 100000 in
theorem dX12_spellReal_69 : decode cX12_spellReal 69 = .ok (.invokevirtual 1487, 3) := by decide +kernel
set_option maxRecDepth 100000 in
theorem dX12_spellReal_72 : decode cX12_spellReal 72 = .ok (.aload_n 0, 1) := by decide +kernel
set_option maxRecDepth 100000 in
theorem dX12_spellReal_73 : decode cX12_spellReal 73 = .ok (.lload 9, 2) := by decide +kernel
set_option maxRecDepth 100000 in
theorem dX12_spellReal_75 : decode cX12_spellReal 75 = .ok (.lload 11, 2) := by decide +kernel
set_option maxRecDepth 100000 in
theorem dX12_spellReal_77 : decode cX12_spellReal 77 = .ok (.ldiv, 1) := by decide +kernel
set_option maxRecDepth 100000 in
theorem dX12_spellReal_78 : decode cX12_spellReal 78 = .ok (.iconst 1, 1) := by decide +kernel
set_option maxRecDepth 100000 in
theorem dX12_spellReal_79 : decode cX12_spellReal 79 = .ok (.invokevirtual 1490, 3) := by decide +kernel
set_option maxRecDepth 100000 in
theorem dX12_spellReal_82 : decode cX12_spellReal 82 = .ok (.aload_n 0, 1) := by decide +kernel
set_option maxRecDepth 100000 in
theorem dX12_spellReal_83 : decode cX12_spellReal 83 = .ok (.bipush 46, 2) := by decide +kernel
set_option maxRecDepth 100000 in
theorem dX12_spellReal_85 : decode cX12_spellReal 85 = .ok (.invokevirtual 1487, 3) := by decide +kernel
set_option maxRecDepth 100000 in
theorem dX12_spellReal_88 : decode cX12_spellReal 88 = .ok (.aload_n 0, 1) := by decide +kernel
set_option maxRecDepth 100000 in
theorem dX12_spellReal_89 : decode cX12_spellReal 89 = .ok (.lload 9, 2) := by decide +kernel
set_option maxRecDepth 100000 in
theorem dX12_spellReal_91 : decode cX12_spellReal 91 = .ok (.lload 11, 2) := by decide +kernel
set_option maxRecDepth 100000 in
theorem dX12_spellReal_93 : decode cX12_spellReal 93 = .ok (.lrem, 1) := by decide +kernel
set_option maxRecDepth 100000 in
theorem dX12_spellReal_94 : decode cX12_spellReal 94 = .ok (.iload 4, 2) := by decide +kernel
set_option maxRecDepth 100000 in
theorem dX12_spellReal_96 : decode cX12_spellReal 96 = .ok (.invokevirtual 1490, 3) := by decide +kernel
set_option maxRecDepth 100000 in
theorem dX12_spellReal_99 : decode cX12_spellReal 99 = .ok (.return_, 1) := by decide +kernel
set_option maxRecDepth 100000 in
theorem dX12_spellReal_100 : decode cX12_spellReal 100 = .ok (.bipush 12, 2) := by decide +kernel
set_option maxRecDepth 100000 in
theorem dX12_spellReal_102 : decode cX12_spellReal 102 = .ok (.iconst 1, 1) := by decide +kernel
set_option maxRecDepth 100000 in
theorem dX12_spellReal_103 : decode cX12_spellReal 103 = .ok (.iload_n 3, 1) := by decide +kernel
set_option maxRecDepth 100000 in
theorem dX12_spellReal_104 : decode cX12_spellReal 104 = .ok (.bipush 7, 2) := by decide +kernel
set_option maxRecDepth 100000 in
theorem dX12_spellReal_106 : decode cX12_spellReal 106 = .ok (.isub, 1) := by decide +kernel
set_option maxRecDepth 100000 in
theorem dX12_spellReal_107 : decode cX12_spellReal 107 = .ok (.invokestatic 1154, 3) := by decide +kernel
set_option maxRecDepth 100000 in
theorem dX12_spellReal_110 : decode cX12_spellReal 110 = .ok (.invokestatic 1098, 3) := by decide +kernel
set_option maxRecDepth 100000 in
theorem dX12_spellReal_113 : decode cX12_spellReal 113 = .ok (.istore 7, 2) := by decide +kernel
set_option maxRecDepth 100000 in
theorem dX12_spellReal_115 : decode cX12_spellReal 115 = .ok (.iconst 0, 1) := by decide +kernel
set_option maxRecDepth 100000 in
theorem dX12_spellReal_116 : decode cX12_spellReal 116 = .ok (.istore 8, 2) := by decide +kernel
set_option maxRecDepth 100000 in
theorem dX12_spellReal_118 : decode cX12_spellReal 118 = .ok (.dload 5, 2) := by decide +kernel
set_option maxRecDepth 100000 in
theorem dX12_spellReal_120 : decode cX12_spellReal 120 = .ok (.ldc2_w 381, 3) := by decide +kernel
set_option maxRecDepth 100000 in
theorem dX12_spellReal_123 : decode cX12_spellReal 123 = .ok (.dcmp .l, 1) := by decide +kernel
set_option maxRecDepth 100000 in
theorem dX12_spellReal_124 : decode cX12_spellReal 124 = .ok (.ifCond .lt 17, 3) := by decide +kernel
set_option maxRecDepth 100000 in
theorem dX12_spellReal_127 : decode cX12_spellReal 127 = .ok (.dload 5, 2) := by decide +kernel
set_option maxRecDepth 100000 in
theorem dX12_spellReal_129 : decode cX12_spellReal 129 = .ok (.ldc2_w 381, 3) := by decide +kernel
set_option maxRecDepth 100000 in
theorem dX12_spellReal_132 : decode cX12_spellReal 132 = .ok (.ddiv, 1) := by decide +kernel
set_option maxRecDepth 100000 in
theorem dX12_spellReal_133 : decode cX12_spellReal 133 = .ok (.dstore 5, 2) := by decide +kernel
set_option maxRecDepth 100000 in
theorem dX12_spellReal_135 : decode cX12_spellReal 135 = .ok (.iinc 8 1, 3) := by decide +kernel
set_option maxRecDepth 100000 in
theorem dX12_spellReal_138 : decode cX12_spellReal 138 = .ok (.goto (-20), 3) := by decide +kernel
set_option maxRecDepth 100000 in
theorem dX12_spellReal_141 : decode cX12_spellReal 141 = .ok (.dload 5, 2) := by decide +kernel
set_option maxRecDepth 100000 in
theorem dX12_spellReal_143 : decode cX12_spellReal 143 = .ok (.dconst 1, 1) := by decide +kernel
set_option maxRecDepth 100000 in
theorem dX12_spellReal_144 : decode cX12_spellReal 144 = .ok (.dcmp .g, 1) := by decide +kernel
set_option maxRecDepth 100000 in
theorem dX12_spellReal_145 : decode cX12_spellReal 145 = .ok (.ifCond .ge 24, 3) := by decide +kernel
set_option maxRecDepth 100000 in
theorem dX12_spellReal_148 : decode cX12_spellReal 148 = .ok (.dload 5, 2) := by decide +kernel
set_option maxRecDepth 100000 in
theorem dX12_spellReal_150 : decode cX12_spellReal 150 = .ok (.dconst 0, 1) := by decide +kernel
set_option maxRecDepth 100000 in
theorem dX12_spellReal_151 : decode cX12_spellReal 151 = .ok (.dcmp .l, 1) := by decide +kernel
set_option maxRecDepth 100000 in
theorem dX12_spellReal_152 : decode cX12_spellReal 152 = .ok (.ifCond .eq 17, 3) := by decide +kernel
set_option maxRecDepth 100000 in
theorem dX12_spellReal_155 : decode cX12_spellReal 155 = .ok (.dload 5, 2) := by decide +kernel
set_option maxRecDepth 100000 in
theorem dX12_spellReal_157 : decode cX12_spellReal 157 = .ok (.ldc2_w 381, 3) := by decide +kernel
set_option maxRecDepth 100000 in
theorem dX12_spellReal_160 : decode cX12_spellReal 160 = .ok (.dmul, 1) := by decide +kernel
set_option maxRecDepth 100000 in
theorem dX12_spellReal_161 : decode cX12_spellReal 161 = .ok (.dstore 5, 2) := by decide +kernel
set_option maxRecDepth 100000 in
theorem dX12_spellReal_163 : decode cX12_spellReal 163 = .ok (.iinc 8 (-1), 3) := by decide +kernel
set_option maxRecDepth 100000 in
theorem dX12_spellReal_166 : decode cX12_spellReal 166 = .ok (.goto (-25), 3) := by decide +kernel
set_option maxRecDepth 100000 in
theorem dX12_spellReal_169 : decode cX12_spellReal 169 = .ok (.iload 7, 2) := by decide +kernel
set_option maxRecDepth 100000 in
theorem dX12_spellReal_171 : decode cX12_spellReal 171 = .ok (.invokestatic 407, 3) := by decide +kernel
set_option maxRecDepth 100000 in
theorem dX12_spellReal_174 : decode cX12_spellReal 174 = .ok (.dstore 9, 2) := by decide +kernel
set_option maxRecDepth 100000 in
theorem dX12_spellReal_176 : decode cX12_spellReal 176 = .ok (.dload 5, 2) := by decide +kernel
set_option maxRecDepth 100000 in
theorem dX12_spellReal_178 : decode cX12_spellReal 178 = .ok (.dload 9, 2) := by decide +kernel
set_option maxRecDepth 100000 in
theorem dX12_spellReal_180 : decode cX12_spellReal 180 = .ok (.dmul, 1) := by decide +kernel
set_option maxRecDepth 100000 in
theorem dX12_spellReal_181 : decode cX12_spellReal 181 = .ok (.ldc2_w 1320, 3) := by decide +kernel
set_option maxRecDepth 100000 in
theorem dX12_spellReal_184 : decode cX12_spellReal 184 = .ok (.dadd, 1) := by decide +kernel
set_option maxRecDepth 100000 in
theorem dX12_spellReal_185 : decode cX12_spellReal 185 = .ok (.d2l, 1) := by decide +kernel
set_option maxRecDepth 100000 in
theorem dX12_spellReal_186 : decode cX12_spellReal 186 = .ok (.lstore 11, 2) := by decide +kernel
set_option maxRecDepth 100000 in
theorem dX12_spellReal_188 : decode cX12_spellReal 188 = .ok (.dload 9, 2) := by decide +kernel
set_option maxRecDepth 100000 in
theorem dX12_spellReal_190 : decode cX12_spellReal 190 = .ok (.d2l, 1) := by decide +kernel
set_option maxRecDepth 100000 in
theorem dX12_spellReal_191 : decode cX12_spellReal 191 = .ok (.lstore 13, 2) := by decide +kernel
set_option maxRecDepth 100000 in
theorem dX12_spellReal_193 : decode cX12_spellReal 193 = .ok (.lload 11, 2) := by decide +kernel
set_option maxRecDepth 100000 in
theorem dX12_spellReal_195 : decode cX12_spellReal 195 = .ok (.ldc2_w 389, 3) := by decide +kernel
set_option maxRecDepth 100000 in
theorem dX12_spellReal_198 : decode cX12_spellReal 198 = .ok (.lload 13, 2) := by decide +kernel
set_option maxRecDepth 100000 in
theorem dX12_spellReal_200 : decode cX12_spellReal 200 = .ok (.lmul, 1) := by decide +kernel
set_option maxRecDepth 100000 in
theorem dX12_spellReal_201 : decode cX12_spellReal 201 = .ok (.lcmp, 1) := by decide +kernel
set_option maxRecDepth 100000 in
theorem dX12_spellReal_202 : decode cX12_spellReal 202 = .ok (.ifCond .lt 14, 3) := by decide +kernel
set_option maxRecDepth 100000 in
theorem dX12_spellReal_205 : decode cX12_spellReal 205 = .ok (.lload 11, 2) := by decide +kernel
set_option maxRecDepth 100000 in
theorem dX12_spellReal_207 : decode cX12_spellReal 207 = .ok (.ldc2_w 389, 3) := by decide +kernel
set_option maxRecDepth 100000 in
theorem dX12_spellReal_210 : decode cX12_spellReal 210 = .ok (.ldiv, 1) := by decide +kernel
set_option maxRecDepth 100000 in
theorem dX12_spellReal_211 : decode cX12_spellReal 211 = .ok (.lstore 11, 2) := by decide +kernel
set_option maxRecDepth 100000 in
theorem dX12_spellReal_213 : decode cX12_spellReal 213 = .ok (.iinc 8 1, 3) := by decide +kernel
set_option maxRecDepth 100000 in
theorem dX12_spellReal_216 : decode cX12_spellReal 216 = .ok (.aload_n 0, 1) := by decide +kernel
set_option maxRecDepth 100000 in
theorem dX12_spellReal_217 : decode cX12_spellReal 217 = .ok (.dload_n 1, 1) := by decide +kernel
set_option maxRecDepth 100000 in
theorem dX12_spellReal_218 : decode cX12_spellReal 218 = .ok (.dconst 0, 1) := by decide +kernel
set_option maxRecDepth 100000 in
theorem dX12_spellReal_219 : decode cX12_spellReal 219 = .ok (.dcmp .g, 1) := by decide +kernel
set_option maxRecDepth 100000 in
theorem dX12_spellReal_220 : decode cX12_spellReal 220 = .ok (.ifCond .ge 8, 3) := by decide +kernel
set_option maxRecDepth 100000 in
theorem dX12_spellReal_223 : decode cX12_spellReal 223 = .ok (.bipush 45, 2) := by decide +kernel
set_option maxRecDepth 100000 in
theorem dX12_spellReal_225 : decode cX12_spellReal 225 = .ok (.goto 5, 3) := by decide +kernel
set_option maxRecDepth 100000 in
theorem dX12_spellReal_228 : decode cX12_spellReal 228 = .ok (.bipush 32, 2) := by decide +kernel
set_option maxRecDepth 100000 in
theorem dX12_spellReal_230 : decode cX12_spellReal 230 = .ok (.invokevirtual 1487, 3) := by decide +kernel
set_option maxRecDepth 100000 in
theorem dX12_spellReal_233 : decode cX12_spellReal 233 = .ok (.aload_n 0, 1) := by decide +kernel
set_option maxRecDepth 100000 in
theorem dX12_spellReal_234 : decode cX12_spellReal 234 = .ok (.lload 11, 2) := by decide +kernel
set_option maxRecDepth 100000 in
theorem dX12_spellReal_236 : decode cX12_spellReal 236 = .ok (.lload 13, 2) := by decide +kernel
set_option maxRecDepth 100000 in
theorem dX12_spellReal_238 : decode cX12_spellReal 238 = .ok (.ldiv, 1) := by decide +kernel
set_option maxRecDepth 100000 in
theorem dX12_spellReal_239 : decode cX12_spellReal 239 = .ok (.iconst 1, 1) := by decide +kernel
set_option maxRecDepth 100000 in
theorem dX12_spellReal_240 : decode cX12_spellReal 240 = .ok (.invokevirtual 1490, 3) := by decide +kernel
set_option maxRecDepth 100000 in
theorem dX12_spellReal_243 : decode cX12_spellReal 243 = .ok (.aload_n 0, 1) := by decide +kernel
set_option maxRecDepth 100000 in
theorem dX12_spellReal_244 : decode cX12_spellReal 244 = .ok (.bipush 46, 2) := by decide +kernel
set_option maxRecDepth 100000 in
theorem dX12_spellReal_246 : decode cX12_spellReal 246 = .ok (.invokevirtual 1487, 3) := by decide +kernel
set_option maxRecDepth 100000 in
theorem dX12_spellReal_249 : decode cX12_spellReal 249 = .ok (.aload_n 0, 1) := by decide +kernel
set_option maxRecDepth 100000 in
theorem dX12_spellReal_250 : decode cX12_spellReal 250 = .ok (.lload 11, 2) := by decide +kernel
set_option maxRecDepth 100000 in
theorem dX12_spellReal_252 : decode cX12_spellReal 252 = .ok (.lload 13, 2) := by decide +kernel
set_option maxRecDepth 100000 in
theorem dX12_spellReal_254 : decode cX12_spellReal 254 = .ok (.lrem, 1) := by decide +kernel
set_option maxRecDepth 100000 in
theorem dX12_spellReal_255 : decode cX12_spellReal 255 = .ok (.iload 7, 2) := by decide +kernel
set_option maxRecDepth 100000 in
theorem dX12_spellReal_257 : decode cX12_spellReal 257 = .ok (.invokevirtual 1490, 3) := by decide +kernel
set_option maxRecDepth 100000 in
theorem dX12_spellReal_260 : decode cX12_spellReal 260 = .ok (.aload_n 0, 1) := by decide +kernel
set_option maxRecDepth 100000 in
theorem dX12_spellReal_261 : decode cX12_spellReal 261 = .ok (.bipush 101, 2) := by decide +kernel
set_option maxRecDepth 100000 in
theorem dX12_spellReal_263 : decode cX12_spellReal 263 = .ok (.invokevirtual 1487, 3) := by decide +kernel
set_option maxRecDepth 100000 in
theorem dX12_spellReal_266 : decode cX12_spellReal 266 = .ok (.aload_n 0, 1) := by decide +kernel
set_option maxRecDepth 100000 in
theorem dX12_spellReal_267 : decode cX12_spellReal 267 = .ok (.iload 8, 2) := by decide +kernel
set_option maxRecDepth 100000 in
theorem dX12_spellReal_269 : decode cX12_spellReal 269 = .ok (.ifCond .ge 8, 3) := by decide +kernel
set_option maxRecDepth 100000 in
theorem dX12_spellReal_272 : decode cX12_spellReal 272 = .ok (.bipush 45, 2) := by decide +kernel
set_option maxRecDepth 100000 in
theorem dX12_spellReal_274 : decode cX12_spellReal 274 = .ok (.goto 5, 3) := by decide +kernel
set_option maxRecDepth 100000 in
theorem dX12_spellReal_277 : decode cX12_spellReal 277 = .ok (.bipush 43, 2) := by decide +kernel
set_option maxRecDepth 100000 in
theorem dX12_spellReal_279 : decode cX12_spellReal 279 = .ok (.invokevirtual 1487, 3) := by decide +kernel
set_option maxRecDepth 100000 in
theorem dX12_spellReal_282 : decode cX12_spellReal 282 = .ok (.aload_n 0, 1) := by decide +kernel
set_option maxRecDepth 100000 in
theorem dX12_spellReal_283 : decode cX12_spellReal 283 = .ok (.iload 8, 2) := by decide +kernel
set_option maxRecDepth 100000 in
theorem dX12_spellReal_285 : decode cX12_spellReal 285 = .ok (.ifCond .ge 10, 3) := by decide +kernel
set_option maxRecDepth 100000 in
theorem dX12_spellReal_288 : decode cX12_spellReal 288 = .ok (.iload 8, 2) := by decide +kernel
set_option maxRecDepth 100000 in
theorem dX12_spellReal_290 : decode cX12_spellReal 290 = .ok (.ineg, 1) := by decide +kernel
set_option maxRecDepth 100000 in
theorem dX12_spellReal_291 : decode cX12_spellReal 291 = .ok (.i2l, 1) := by decide +kernel
set_option maxRecDepth 100000 in
theorem dX12_spellReal_292 : decode cX12_spellReal 292 = .ok (.goto 6, 3) := by decide +kernel
set_option maxRecDepth 100000 in
theorem dX12_spellReal_295 : decode cX12_spellReal 295 = .ok (.iload 8, 2) := by decide +kernel
set_option maxRecDepth 100000 in
theorem dX12_spellReal_297 : decode cX12_spellReal 297 = .ok (.i2l, 1) := by decide +kernel
set_option maxRecDepth 100000 in
theorem dX12_spellReal_298 : decode cX12_spellReal 298 = .ok (.iconst 2, 1) := by decide +kernel
set_option maxRecDepth 100000 in
theorem dX12_spellReal_299 : decode cX12_spellReal 299 = .ok (.invokevirtual 1490, 3) := by decide +kernel
set_option maxRecDepth 100000 in
theorem dX12_spellReal_302 : decode cX12_spellReal 302 = .ok (.return_, 1) := by decide +kernel
def lX12_spellReal_118 (G : xG) (fr lo : Nat) (x0 : Nat) (x1 : UInt64) (x5 : UInt64) (x7 : Int32) (x8 : Int32) (h : xH) (Q : Outcome → xH → Prop) : Prop := xP G YX12_spellReal fr lo 118 [(0, rv x0), (1, .double x1), (5, .double x5), (7, .int x7), (8, .int x8)] [] h Q
def lX12_spellReal_141 (G : xG) (fr lo : Nat) (x0 : Nat) (x1 : UInt64) (x5 : UInt64) (x7 : Int32) (x8 : Int32) (h : xH) (Q : Outcome → xH → Prop) : Prop := xP G YX12_spellReal fr lo 141 [(0, rv x0), (1, .double x1), (5, .double x5), (7, .int x7), (8, .int x8)] [] h Q
set_option maxRecDepth 100000 in
def bX12_spellReal_298 (G : xG) (fr lo : Nat) (s0 : Int64) (s1 : Nat) (h : xH) (Q : Outcome → xH → Prop) : Prop := tg h s1 = 13 ∧ 1 ≤ fr ∧ 18 ≤ lo ∧ xRv G YX12_spellDigits (fr - 1) (lo - 18) [rv s1, .long s0, .int 2] h (fun h4 => xext h h4 → Q (.returned none) h4) (fun r h2 => Q (.threw r) h2)
set_option maxRecDepth 100000 in
theorem uX12_spellReal_298 {G : xG} {fr lo : Nat} {s0 : Int64} {s1 : Nat} {h : xH} {Q : Outcome → xH → Prop} (hq : bX12_spellReal_298 G fr lo s0 s1 h Q) : xP G YX12_spellReal fr lo 298 [] [.long s0, rv s1] h Q := by
  unfold bX12_spellReal_298 at hq
  refine x_iconst (v := 2) dX12_spellReal_298 (by decide) ?_
  obtain ⟨g1, hq⟩ := hq
  obtain ⟨g2, g3, hq⟩ := hq
  refine x_callV (Yc := YX12_spellDigits) (as := [.long s0, .int 2]) (st := []) q4783 mvX12_spellDigits g1 rfl dX12_spellReal_299 (xle (xal1 (rv_cat _) (xal2 rfl (xal1 rfl xal0))) (by decide)) (xfr g2) (xlo xsw0 (by decide) g3) (xKv hq (fun h4 hq e6 => ?_) (fun _ _ q _ => q))
  replace hq := hq e6
  exact x_vret rfl dX12_spellReal_302 hq
set_option maxRecDepth 100000 in
def bX12_spellReal_279 (G : xG) (fr lo : Nat) (x0 : Nat) (x8 : Int32) (s0 : Int32) (s1 : Nat) (h : xH) (Q : Outcome → xH → Prop) : Prop := tg h s1 = 13 ∧ 1 ≤ fr ∧ 13 ≤ lo ∧ xRv G YX12_say (fr - 1) (lo - 13) [rv s1, .int s0] h (fun h4 => xext h h4 → ((0 ≤ x8 → bX12_spellReal_298 G fr lo (Int32.toInt64 x8) x0 h4 Q) ∧ (¬ 0 ≤ x8 → bX12_spellReal_298 G fr lo (Int32.toInt64 (-x8)) x0 h4 Q))) (fun r h2 => Q (.threw r) h2)
set_option maxRecDepth 100000 in
theorem uX12_spellReal_279 {G : xG} {fr lo : Nat} {x0 : Nat} {x8 : Int32} {s0 : Int32} {s1 : Nat} {h : xH} {Q : Outcome → xH → Prop} (hq : bX12_spellReal_279 G fr lo x0 x8 s0 s1 h Q) : xP G YX12_spellReal fr lo 279 [(0, rv x0), (8, .int x8)] [.int s0, rv s1] h Q := by
  unfold bX12_spellReal_279 at hq
  obtain ⟨g1, hq⟩ := hq
  obtain ⟨g2, g3, hq⟩ := hq
  refine x_callV (Yc := YX12_say) (as := [.int s0]) (st := []) q4779 mvX12_say g1 rfl dX12_spellReal_279 (xle (xal1 (rv_cat _) (xal1 rfl xal0)) (by decide)) (xfr g2) (xlo xsw0 (by decide) g3) (xKv hq (fun h4 hq e6 => ?_) (fun _ _ q _ => q))
  replace hq := hq e6
  refine x_aload_n 0 dX12_spellReal_282 rfl ?_
  refine x_iload 1 dX12_spellReal_283 rfl ?_
  refine x_if_ge (tgt := 295) dX12_spellReal_285 (by decide) (fun c7 => ?_) (fun c7 => ?_)
  · replace hq := hq.1 c7
    refine x_iload 1 dX12_spellReal_295 rfl ?_
    refine x_i2l dX12_spellReal_297 ?_
    refine xP.pick (lv' := []) [] rfl ?_
    exact uX12_spellReal_298 hq
  · replace hq := hq.2 c7
    refine x_iload 1 dX12_spellReal_288 rfl ?_
    refine x_ineg dX12_spellReal_290 ?_
    refine x_i2l dX12_spellReal_291 ?_
    refine x_goto (tgt := 298) dX12_spellReal_292 (by decide) ?_
    refine xP.pick (lv' := []) [] rfl ?_
    exact uX12_spellReal_298 hq
set_option maxRecDepth 100000 in
def bX12_spellReal_230 (G : xG) (fr lo : Nat) (x0 : Nat) (x7 : Int32) (x8 : Int32) (x11 : Int64) (x13 : Int64) (s0 : Int32) (s1 : Nat) (h : xH) (Q : Outcome → xH → Prop) : Prop := tg h s1 = 13 ∧ 1 ≤ fr ∧ 13 ≤ lo ∧ xRv G YX12_say (fr - 1) (lo - 13) [rv s1, .int s0] h (fun h4 => xext h h4 → ¬ x13 = 0 ∧ tg h4 x0 = 13 ∧ 1 ≤ fr ∧ 18 ≤ lo ∧ xRv G YX12_spellDigits (fr - 1) (lo - 18) [rv x0, .long (x11 / x13), .int 1] h4 (fun h11 => xext h4 h11 → 1 ≤ fr ∧ 13 ≤ lo ∧ xRv G YX12_say (fr - 1) (lo - 13) [rv x0, .int 46] h11 (fun h17 => xext h11 h17 → ¬ x13 = 0 ∧ 1 ≤ fr ∧ 18 ≤ lo ∧ xRv G YX12_spellDigits (fr - 1) (lo - 18) [rv x0, .long (x11 - x11 / x13 * x13), .int x7] h17 (fun h24 => xext h17 h24 → 1 ≤ fr ∧ 13 ≤ lo ∧ xRv G YX12_say (fr - 1) (lo - 13) [rv x0, .int 101] h24 (fun h30 => xext h24 h30 → ((0 ≤ x8 → bX12_spellReal_279 G fr lo x0 x8 43 x0 h30 Q) ∧ (¬ 0 ≤ x8 → bX12_spellReal_279 G fr lo x0 x8 45 x0 h30 Q))) (fun r h2 => Q (.threw r) h2)) (fun r h2 => Q (.threw r) h2)) (fun r h2 => Q (.threw r) h2)) (fun r h2 => Q (.threw r) h2)) (fun r h2 => Q (.threw r) h2)
set_option maxRecDepth 100000 in
theorem uX12_spellReal_230 {G : xG} {fr lo : Nat} {x0 : Nat} {x7 : Int32} {x8 : Int32} {x11 : Int64} {x13 : Int64} {s0 : Int32} {s1 : Nat} {h : xH} {Q : Outcome → xH → Prop} (hq : bX12_spellReal_230 G fr lo x0 x7 x8 x11 x13 s0 s1 h Q) : xP G YX12_spellReal fr lo 230 [(0, rv x0), (7, .int x7), (8, .int x8), (11, .long x11), (13, .long x13)] [.int s0, rv s1] h Q := by
  unfold bX12_spellReal_230 at hq
  obtain ⟨g1, hq⟩ := hq
  obtain ⟨g2, g3, hq⟩ := hq
  refine x_callV (Yc := YX12_say) (as := [.int s0]) (st := []) q4779 mvX12_say g1 rfl dX12_spellReal_230 (xle (xal1 (rv_cat _) (xal1 rfl xal0)) (by decide)) (xfr g2) (xlo xsw0 (by decide) g3) (xKv hq (fun h4 hq e6 => ?_) (fun _ _ q _ => q))
  replace hq := hq e6
  refine x_aload_n 0 dX12_spellReal_233 rfl ?_
  refine x_lload 3 dX12_spellReal_234 rfl ?_
  refine x_lload 4 dX12_spellReal_236 rfl ?_
  obtain ⟨g7, hq⟩ := hq
  refine x_ldiv dX12_spellReal_238 g7 ?_
  refine x_iconst (v := 1) dX12_spellReal_239 (by decide) ?_
  obtain ⟨g8, hq⟩ := hq
  obtain ⟨g9, g10, hq⟩ := hq
  refine x_callV (Yc := YX12_spellDigits) (as := [.long (x11 / x13), .int 1]) (st := []) q4783 mvX12_spellDigits g8 rfl dX12_spellReal_240 (xle (xal1 (rv_cat _) (xal2 rfl (xal1 rfl xal0))) (by decide)) (xfr g9) (xlo xsw0 (by decide) g10) (xKv hq (fun h11 hq e13 => ?_) (fun _ _ q _ => q))
  replace hq := hq e13
  refine x_aload_n 0 dX12_spellReal_243 rfl ?_
  refine x_bipush (v := 46) dX12_spellReal_244 (by decide) ?_
  have t14 : tg h11 x0 = 13 := e13.tg g8 (by decide)
  obtain ⟨g15, g16, hq⟩ := hq
  refine x_callV (Yc := YX12_say) (as := [.int 46]) (st := []) q4779 mvX12_say t14 rfl dX12_spellReal_246 (xle (xal1 (rv_cat _) (xal1 rfl xal0)) (by decide)) (xfr g15) (xlo xsw0 (by decide) g16) (xKv hq (fun h17 hq e19 => ?_) (fun _ _ q _ => q))
  replace hq := hq e19
  refine x_aload_n 0 dX12_spellReal_249 rfl ?_
  refine x_lload 3 dX12_spellReal_250 rfl ?_
  refine x_lload 4 dX12_spellReal_252 rfl ?_
  obtain ⟨g20, hq⟩ := hq
  refine x_lrem dX12_spellReal_254 g20 ?_
  refine x_iload 1 dX12_spellReal_255 rfl ?_
  have t21 : tg h17 x0 = 13 := e19.tg t14 (by decide)
  obtain ⟨g22, g23, hq⟩ := hq
  refine x_callV (Yc := YX12_spellDigits) (as := [.long (x11 - x11 / x13 * x13), .int x7]) (st := []) q4783 mvX12_spellDigits t21 rfl dX12_spellReal_257 (xle (xal1 (rv_cat _) (xal2 rfl (xal1 rfl xal0))) (by decide)) (xfr g22) (xlo xsw0 (by decide) g23) (xKv hq (fun h24 hq e26 => ?_) (fun _ _ q _ => q))
  replace hq := hq e26
  refine x_aload_n 0 dX12_spellReal_260 rfl ?_
  refine x_bipush (v := 101) dX12_spellReal_261 (by decide) ?_
  have t27 : tg h24 x0 = 13 := e26.tg t21 (by decide)
  obtain ⟨g28, g29, hq⟩ := hq
  refine x_callV (Yc := YX12_say) (as := [.int 101]) (st := []) q4779 mvX12_say t27 rfl dX12_spellReal_263 (xle (xal1 (rv_cat _) (xal1 rfl xal0)) (by decide)) (xfr g28) (xlo xsw0 (by decide) g29) (xKv hq (fun h30 hq e32 => ?_) (fun _ _ q _ => q))
  replace hq := hq e32
  refine x_aload_n 0 dX12_spellReal_266 rfl ?_
  refine x_iload 2 dX12_spellReal_267 rfl ?_
  refine x_if_ge (tgt := 277) dX12_spellReal_269 (by decide) (fun c33 => ?_) (fun c33 => ?_)
  · replace hq := hq.1 c33
    refine x_bipush (v := 43) dX12_spellReal_277 (by decide) ?_
    refine xP.pick (lv' := [(0, rv x0), (8, .int x8)]) [0, 2] rfl ?_
    exact uX12_spellReal_279 hq
  · replace hq := hq.2 c33
    refine x_bipush (v := 45) dX12_spellReal_272 (by decide) ?_
    refine x_goto (tgt := 279) dX12_spellReal_274 (by decide) ?_
    refine xP.pick (lv' := [(0, rv x0), (8, .int x8)]) [0, 2] rfl ?_
    exact uX12_spellReal_279 hq
set_option maxRecDepth 100000 in
def bX12_spellReal_216 (G : xG) (fr lo : Nat) (x0 : Nat) (x1 : UInt64) (x7 : Int32) (x8 : Int32) (x11 : Int64) (x13 : Int64) (h : xH) (Q : Outcome → xH → Prop) : Prop := ((0 ≤ (Op.cmpValue (FP.dcmp x1 FP.dconst0) .g) → bX12_spellReal_230 G fr lo x0 x7 x8 x11 x13 32 x0 h Q) ∧ (¬ 0 ≤ (Op.cmpValue (FP.dcmp x1 FP.dconst0) .g) → bX12_spellReal_230 G fr lo x0 x7 x8 x11 x13 45 x0 h Q))
set_option maxRecDepth 100000 in
theorem uX12_spellReal_216 {G : xG} {fr lo : Nat} {x0 : Nat} {x1 : UInt64} {x7 : Int32} {x8 : Int32} {x11 : Int64} {x13 : Int64} {h : xH} {Q : Outcome → xH → Prop} (hq : bX12_spellReal_216 G fr lo x0 x1 x7 x8 x11 x13 h Q) : xP G YX12_spellReal fr lo 216 [(0, rv x0), (1, .double x1), (7, .int x7), (8, .int x8), (11, .long x11), (13, .long x13)] [] h Q := by
  unfold bX12_spellReal_216 at hq
  refine x_aload_n 0 dX12_spellReal_216 rfl ?_
  refine x_dload_n 1 dX12_spellReal_217 rfl ?_
  refine x_dconst0 dX12_spellReal_218 ?_
  refine x_dcmp dX12_spellReal_219 ?_
  refine x_if_ge (tgt := 228) dX12_spellReal_220 (by decide) (fun c1 => ?_) (fun c1 => ?_)
  · replace hq := hq.1 c1
    refine x_bipush (v := 32) dX12_spellReal_228 (by decide) ?_
    refine xP.pick (lv' := [(0, rv x0), (7, .int x7), (8, .int x8), (11, .long x11), (13, .long x13)]) [0, 2, 3, 4, 5] rfl ?_
    exact uX12_spellReal_230 hq
  · replace hq := hq.2 c1
    refine x_bipush (v := 45) dX12_spellReal_223 (by decide) ?_
    refine x_goto (tgt := 230) dX12_spellReal_225 (by decide) ?_
    refine xP.pick (lv' := [(0, rv x0), (7, .int x7), (8, .int x8), (11, .long x11), (13, .long x13)]) [0, 2, 3, 4, 5] rfl ?_
    exact uX12_spellReal_230 hq
set_option maxRecDepth 100000 in
def bX12_spellReal_169 (G : xG) (fr lo : Nat) (x0 : Nat) (x1 : UInt64) (x5 : UInt64) (x7 : Int32) (x8 : Int32) (h : xH) (Q : Outcome → xH → Prop) : Prop := 1 ≤ fr ∧ 15 ≤ lo ∧ xRd G YX12_power (fr - 1) (lo - 15) [.int x7] h (fun x4 h3 => xext h h3 → vf_n64 (FP.dmul x5 x4) ∧ vf_n64 (FP.dadd (FP.dmul x5 x4) 4602678819172646912) ∧ (((lg_cmp (FP.d2l (FP.dadd (FP.dmul x5 x4) 4602678819172646912)) (10 * (FP.d2l x4))) < 0 → bX12_spellReal_216 G fr lo x0 x1 x7 x8 (FP.d2l (FP.dadd (FP.dmul x5 x4) 4602678819172646912)) (FP.d2l x4) h3 Q) ∧ (¬ (lg_cmp (FP.d2l (FP.dadd (FP.dmul x5 x4) 4602678819172646912)) (10 * (FP.d2l x4))) < 0 → bX12_spellReal_216 G fr lo x0 x1 x7 (x8 + 1) ((FP.d2l (FP.dadd (FP.dmul x5 x4) 4602678819172646912)) / 10) (FP.d2l x4) h3 Q))) (fun r h2 => Q (.threw r) h2)
set_option maxRecDepth 100000 in
theorem uX12_spellReal_169 {G : xG} {fr lo : Nat} {x0 : Nat} {x1 : UInt64} {x5 : UInt64} {x7 : Int32} {x8 : Int32} {h : xH} {Q : Outcome → xH → Prop} (hq : bX12_spellReal_169 G fr lo x0 x1 x5 x7 x8 h Q) : xP G YX12_spellReal fr lo 169 [(0, rv x0), (1, .double x1), (5, .double x5), (7, .int x7), (8, .int x8)] [] h Q := by
  unfold bX12_spellReal_169 at hq
  refine x_iload 3 dX12_spellReal_169 rfl ?_
  obtain ⟨g1, g2, hq⟩ := hq
  refine x_callS (Yc := YX12_power) (as := [.int x7]) (st := []) q3760 msX12_power rfl dX12_spellReal_171 (xle (xal1 rfl xal0) (by decide)) (xfr g1) (xlo xsw0 (by decide) g2) (xKd hq (fun x4 h3 hq e5 => ?_) (fun _ _ q _ => q))
  replace hq := hq e5
  refine x_dstore (lv' := [(9, .double x4), (0, rv x0), (1, .double x1), (5, .double x5), (7, .int x7), (8, .int x8)]) dX12_spellReal_174 (by decide) rfl ?_
  refine x_dload 3 dX12_spellReal_176 rfl ?_
  refine x_dload 0 dX12_spellReal_178 rfl ?_
  obtain ⟨g6, hq⟩ := hq
  refine x_dmul dX12_spellReal_180 g6 ?_
  refine x_ldc2d (v := 4602678819172646912) q4605 dX12_spellReal_181 ?_
  obtain ⟨g7, hq⟩ := hq
  refine x_dadd dX12_spellReal_184 g7 ?_
  refine x_d2l dX12_spellReal_185 ?_
  refine x_lstore (lv' := [(11, .long (FP.d2l (FP.dadd (FP.dmul x5 x4) 4602678819172646912))), (9, .double x4), (0, rv x0), (1, .double x1), (5, .double x5), (7, .int x7), (8, .int x8)]) dX12_spellReal_186 (by decide) rfl ?_
  refine x_dload 1 dX12_spellReal_188 rfl ?_
  refine x_d2l dX12_spellReal_190 ?_
  refine x_lstore (lv' := [(13, .long (FP.d2l x4)), (11, .long (FP.d2l (FP.dadd (FP.dmul x5 x4) 4602678819172646912))), (9, .double x4), (0, rv x0), (1, .double x1), (5, .double x5), (7, .int x7), (8, .int x8)]) dX12_spellReal_191 (by decide) rfl ?_
  refine x_lload 1 dX12_spellReal_193 rfl ?_
  refine x_ldc2 (v := 10) q3750 dX12_spellReal_195 ?_
  refine x_lload 0 dX12_spellReal_198 rfl ?_
  refine x_lmul dX12_spellReal_200 ?_
  refine x_lcmp dX12_spellReal_201 ?_
  refine x_if_lt (tgt := 216) dX12_spellReal_202 (by decide) (fun c8 => ?_) (fun c8 => ?_)
  · replace hq := hq.1 c8
    refine xP.pick (lv' := [(0, rv x0), (1, .double x1), (7, .int x7), (8, .int x8), (11, .long (FP.d2l (FP.dadd (FP.dmul x5 x4) 4602678819172646912))), (13, .long (FP.d2l x4))]) [3, 4, 6, 7, 1, 0] rfl ?_
    exact uX12_spellReal_216 hq
  · replace hq := hq.2 c8
    refine x_lload 1 dX12_spellReal_205 rfl ?_
    refine x_ldc2 (v := 10) q3750 dX12_spellReal_207 ?_
    refine x_ldiv dX12_spellReal_210 (by decide) ?_
    refine x_lstore (lv' := [(11, .long ((FP.d2l (FP.dadd (FP.dmul x5 x4) 4602678819172646912)) / 10)), (13, .long (FP.d2l x4)), (9, .double x4), (0, rv x0), (1, .double x1), (5, .double x5), (7, .int x7), (8, .int x8)]) dX12_spellReal_211 (by decide) rfl ?_
    refine x_iinc (lv' := [(8, .int (x8 + 1)), (11, .long ((FP.d2l (FP.dadd (FP.dmul x5 x4) 4602678819172646912)) / 10)), (13, .long (FP.d2l x4)), (9, .double x4), (0, rv x0), (1, .double x1), (5, .double x5), (7, .int x7)]) 7 dX12_spellReal_213 rfl (by decide) rfl ?_
    refine xP.pick (lv' := [(0, rv x0), (1, .double x1), (7, .int x7), (8, .int (x8 + 1)), (11, .long ((FP.d2l (FP.dadd (FP.dmul x5 x4) 4602678819172646912)) / 10)), (13, .long (FP.d2l x4))]) [4, 5, 7, 0, 1, 2] rfl ?_
    exact uX12_spellReal_216 hq
set_option maxRecDepth 100000 in
def bX12_spellReal_141 (G : xG) (fr lo : Nat) (x0 : Nat) (x1 : UInt64) (x5 : UInt64) (x7 : Int32) (x8 : Int32) (h : xH) (Q : Outcome → xH → Prop) : Prop := ((0 ≤ (Op.cmpValue (FP.dcmp x5 FP.dconst1) .g) → bX12_spellReal_169 G fr lo x0 x1 x5 x7 x8 h Q) ∧ (¬ 0 ≤ (Op.cmpValue (FP.dcmp x5 FP.dconst1) .g) → (((Op.cmpValue (FP.dcmp x5 FP.dconst0) .l) = 0 → bX12_spellReal_169 G fr lo x0 x1 x5 x7 x8 h Q) ∧ (¬ (Op.cmpValue (FP.dcmp x5 FP.dconst0) .l) = 0 → vf_n64 (FP.dmul x5 4621819117588971520) ∧ lX12_spellReal_141 G fr lo x0 x1 (FP.dmul x5 4621819117588971520) x7 (x8 + (-1)) h Q))))
set_option maxRecDepth 100000 in
theorem uX12_spellReal_141 {G : xG} {fr lo : Nat} {x0 : Nat} {x1 : UInt64} {x5 : UInt64} {x7 : Int32} {x8 : Int32} {h : xH} {Q : Outcome → xH → Prop} (hq : bX12_spellReal_141 G fr lo x0 x1 x5 x7 x8 h Q) : xP G YX12_spellReal fr lo 141 [(0, rv x0), (1, .double x1), (5, .double x5), (7, .int x7), (8, .int x8)] [] h Q := by
  unfold bX12_spellReal_141 at hq
  refine x_dload 2 dX12_spellReal_141 rfl ?_
  refine x_dconst1 dX12_spellReal_143 ?_
  refine x_dcmp dX12_spellReal_144 ?_
  refine x_if_ge (tgt := 169) dX12_spellReal_145 (by decide) (fun c1 => ?_) (fun c1 => ?_)
  · replace hq := hq.1 c1
    exact uX12_spellReal_169 hq
  · replace hq := hq.2 c1
    refine x_dload 2 dX12_spellReal_148 rfl ?_
    refine x_dconst0 dX12_spellReal_150 ?_
    refine x_dcmp dX12_spellReal_151 ?_
    refine x_if_eq (tgt := 169) dX12_spellReal_152 (by decide) (fun c2 => ?_) (fun c2 => ?_)
    · replace hq := hq.1 c2
      exact uX12_spellReal_169 hq
    · replace hq := hq.2 c2
      refine x_dload 2 dX12_spellReal_155 rfl ?_
      refine x_ldc2d (v := 4621819117588971520) q3763 dX12_spellReal_157 ?_
      obtain ⟨g3, hq⟩ := hq
      refine x_dmul dX12_spellReal_160 g3 ?_
      refine x_dstore (lv' := [(5, .double (FP.dmul x5 4621819117588971520)), (0, rv x0), (1, .double x1), (7, .int x7), (8, .int x8)]) dX12_spellReal_161 (by decide) rfl ?_
      refine x_iinc (lv' := [(8, .int (x8 + (-1))), (5, .double (FP.dmul x5 4621819117588971520)), (0, rv x0), (1, .double x1), (7, .int x7)]) 4 dX12_spellReal_163 rfl (by decide) rfl ?_
      refine x_goto (tgt := 141) dX12_spellReal_166 (by decide) ?_
      refine xP.pick (lv' := [(0, rv x0), (1, .double x1), (5, .double (FP.dmul x5 4621819117588971520)), (7, .int x7), (8, .int (x8 + (-1)))]) [2, 3, 1, 4, 0] rfl ?_
      exact hq
set_option maxRecDepth 100000 in
def bX12_spellReal_118 (G : xG) (fr lo : Nat) (x0 : Nat) (x1 : UInt64) (x5 : UInt64) (x7 : Int32) (x8 : Int32) (h : xH) (Q : Outcome → xH → Prop) : Prop := (((Op.cmpValue (FP.dcmp x5 4621819117588971520) .l) < 0 → lX12_spellReal_141 G fr lo x0 x1 x5 x7 x8 h Q) ∧ (¬ (Op.cmpValue (FP.dcmp x5 4621819117588971520) .l) < 0 → vf_n64 (FP.ddiv x5 4621819117588971520) ∧ lX12_spellReal_118 G fr lo x0 x1 (FP.ddiv x5 4621819117588971520) x7 (x8 + 1) h Q))
set_option maxRecDepth 100000 in
theorem uX12_spellReal_118 {G : xG} {fr lo : Nat} {x0 : Nat} {x1 : UInt64} {x5 : UInt64} {x7 : Int32} {x8 : Int32} {h : xH} {Q : Outcome → xH → Prop} (hq : bX12_spellReal_118 G fr lo x0 x1 x5 x7 x8 h Q) : xP G YX12_spellReal fr lo 118 [(0, rv x0), (1, .double x1), (5, .double x5), (7, .int x7), (8, .int x8)] [] h Q := by
  unfold bX12_spellReal_118 at hq
  refine x_dload 2 dX12_spellReal_118 rfl ?_
  refine x_ldc2d (v := 4621819117588971520) q3763 dX12_spellReal_120 ?_
  refine x_dcmp dX12_spellReal_123 ?_
  refine x_if_lt (tgt := 141) dX12_spellReal_124 (by decide) (fun c1 => ?_) (fun c1 => ?_)
  · replace hq := hq.1 c1
    exact hq
  · replace hq := hq.2 c1
    refine x_dload 2 dX12_spellReal_127 rfl ?_
    refine x_ldc2d (v := 4621819117588971520) q3763 dX12_spellReal_129 ?_
    obtain ⟨g2, hq⟩ := hq
    refine x_ddiv dX12_spellReal_132 g2 ?_
    refine x_dstore (lv' := [(5, .double (FP.ddiv x5 4621819117588971520)), (0, rv x0), (1, .double x1), (7, .int x7), (8, .int x8)]) dX12_spellReal_133 (by decide) rfl ?_
    refine x_iinc (lv' := [(8, .int (x8 + 1)), (5, .double (FP.ddiv x5 4621819117588971520)), (0, rv x0), (1, .double x1), (7, .int x7)]) 4 dX12_spellReal_135 rfl (by decide) rfl ?_
    refine x_goto (tgt := 118) dX12_spellReal_138 (by decide) ?_
    refine xP.pick (lv' := [(0, rv x0), (1, .double x1), (5, .double (FP.ddiv x5 4621819117588971520)), (7, .int x7), (8, .int (x8 + 1))]) [2, 3, 1, 4, 0] rfl ?_
    exact hq
set_option maxRecDepth 100000 in
def bX12_spellReal_100 (G : xG) (fr lo : Nat) (x0 : Nat) (x1 : UInt64) (x3 : Int32) (x5 : UInt64) (h : xH) (Q : Outcome → xH → Prop) : Prop := 1 ≤ fr ∧ 14 ≤ lo ∧ xRi G YJ10_max (fr - 1) (lo - 14) [.int 1, .int (x3 - 7)] h (fun x4 h3 => xext h h3 → 1 ≤ fr ∧ 13 ≤ lo ∧ xRi G YJ10_min (fr - 1) (lo - 13) [.int 12, .int x4] h3 (fun x9 h8 => xext h3 h8 → lX12_spellReal_118 G fr lo x0 x1 x5 x9 0 h8 Q) (fun r h2 => Q (.threw r) h2)) (fun r h2 => Q (.threw r) h2)
set_option maxRecDepth 100000 in
theorem uX12_spellReal_100 {G : xG} {fr lo : Nat} {x0 : Nat} {x1 : UInt64} {x3 : Int32} {x5 : UInt64} {h : xH} {Q : Outcome → xH → Prop} (hq : bX12_spellReal_100 G fr lo x0 x1 x3 x5 h Q) : xP G YX12_spellReal fr lo 100 [(0, rv x0), (1, .double x1), (3, .int x3), (5, .double x5)] [] h Q := by
  unfold bX12_spellReal_100 at hq
  refine x_bipush (v := 12) dX12_spellReal_100 (by decide) ?_
  refine x_iconst (v := 1) dX12_spellReal_102 (by decide) ?_
  refine x_iload_n 2 dX12_spellReal_103 rfl ?_
  refine x_bipush (v := 7) dX12_spellReal_104 (by decide) ?_
  refine x_isub dX12_spellReal_106 ?_
  obtain ⟨g1, g2, hq⟩ := hq
  refine x_callS (Yc := YJ10_max) (as := [.int 1, .int (x3 - 7)]) (st := [.int 12]) q4488 msJ10_max rfl dX12_spellReal_107 (xle (xal1 rfl (xal1 rfl xal0)) (by decide)) (xfr g1) (xlo (xsw1 rfl xsw0) (by decide) g2) (xKi hq (fun x4 h3 hq e5 => ?_) (fun _ _ q _ => q))
  replace hq := hq e5
  obtain ⟨g6, g7, hq⟩ := hq
  refine x_callS (Yc := YJ10_min) (as := [.int 12, .int x4]) (st := []) q3662 msJ10_min rfl dX12_spellReal_110 (xle (xal1 rfl (xal1 rfl xal0)) (by decide)) (xfr g6) (xlo xsw0 (by decide) g7) (xKi hq (fun x9 h8 hq e10 => ?_) (fun _ _ q _ => q))
  replace hq := hq e10
  refine x_istore (lv' := [(7, .int x9), (0, rv x0), (1, .double x1), (3, .int x3), (5, .double x5)]) dX12_spellReal_113 (by decide) rfl ?_
  refine x_iconst (v := 0) dX12_spellReal_115 (by decide) ?_
  refine x_istore (lv' := [(8, .int 0), (7, .int x9), (0, rv x0), (1, .double x1), (3, .int x3), (5, .double x5)]) dX12_spellReal_116 (by decide) rfl ?_
  refine xP.pick (lv' := [(0, rv x0), (1, .double x1), (5, .double x5), (7, .int x9), (8, .int 0)]) [2, 3, 5, 1, 0] rfl ?_
  exact hq
set_option maxRecDepth 100000 in
def bX12_spellReal_72 (G : xG) (fr lo : Nat) (x0 : Nat) (x4 : Int32) (x9 : Int64) (x11 : Int64) (h : xH) (Q : Outcome → xH → Prop) : Prop := ¬ x11 = 0 ∧ tg h x0 = 13 ∧ 1 ≤ fr ∧ 18 ≤ lo ∧ xRv G YX12_spellDigits (fr - 1) (lo - 18) [rv x0, .long (x9 / x11), .int 1] h (fun h5 => xext h h5 → 1 ≤ fr ∧ 13 ≤ lo ∧ xRv G YX12_say (fr - 1) (lo - 13) [rv x0, .int 46] h5 (fun h11 => xext h5 h11 → ¬ x11 = 0 ∧ 1 ≤ fr ∧ 18 ≤ lo ∧ xRv G YX12_spellDigits (fr - 1) (lo - 18) [rv x0, .long (x9 - x9 / x11 * x11), .int x4] h11 (fun h18 => xext h11 h18 → Q (.returned none) h18) (fun r h2 => Q (.threw r) h2)) (fun r h2 => Q (.threw r) h2)) (fun r h2 => Q (.threw r) h2)
set_option maxRecDepth 100000 in
theorem uX12_spellReal_72 {G : xG} {fr lo : Nat} {x0 : Nat} {x4 : Int32} {x9 : Int64} {x11 : Int64} {h : xH} {Q : Outcome → xH → Prop} (hq : bX12_spellReal_72 G fr lo x0 x4 x9 x11 h Q) : xP G YX12_spellReal fr lo 72 [(0, rv x0), (4, .int x4), (9, .long x9), (11, .long x11)] [] h Q := by
  unfold bX12_spellReal_72 at hq
  refine x_aload_n 0 dX12_spellReal_72 rfl ?_
  refine x_lload 2 dX12_spellReal_73 rfl ?_
  refine x_lload 3 dX12_spellReal_75 rfl ?_
  obtain ⟨g1, hq⟩ := hq
  refine x_ldiv dX12_spellReal_77 g1 ?_
  refine x_iconst (v := 1) dX12_spellReal_78 (by decide) ?_
  obtain ⟨g2, hq⟩ := hq
  obtain ⟨g3, g4, hq⟩ := hq
  refine x_callV (Yc := YX12_spellDigits) (as := [.long (x9 / x11), .int 1]) (st := []) q4783 mvX12_spellDigits g2 rfl dX12_spellReal_79 (xle (xal1 (rv_cat _) (xal2 rfl (xal1 rfl xal0))) (by decide)) (xfr g3) (xlo xsw0 (by decide) g4) (xKv hq (fun h5 hq e7 => ?_) (fun _ _ q _ => q))
  replace hq := hq e7
  refine x_aload_n 0 dX12_spellReal_82 rfl ?_
  refine x_bipush (v := 46) dX12_spellReal_83 (by decide) ?_
  have t8 : tg h5 x0 = 13 := e7.tg g2 (by decide)
  obtain ⟨g9, g10, hq⟩ := hq
  refine x_callV (Yc := YX12_say) (as := [.int 46]) (st := []) q4779 mvX12_say t8 rfl dX12_spellReal_85 (xle (xal1 (rv_cat _) (xal1 rfl xal0)) (by decide)) (xfr g9) (xlo xsw0 (by decide) g10) (xKv hq (fun h11 hq e13 => ?_) (fun _ _ q _ => q))
  replace hq := hq e13
  refine x_aload_n 0 dX12_spellReal_88 rfl ?_
  refine x_lload 2 dX12_spellReal_89 rfl ?_
  refine x_lload 3 dX12_spellReal_91 rfl ?_
  obtain ⟨g14, hq⟩ := hq
  refine x_lrem dX12_spellReal_93 g14 ?_
  refine x_iload 1 dX12_spellReal_94 rfl ?_
  have t15 : tg h11 x0 = 13 := e13.tg t8 (by decide)
  obtain ⟨g16, g17, hq⟩ := hq
  refine x_callV (Yc := YX12_spellDigits) (as := [.long (x9 - x9 / x11 * x11), .int x4]) (st := []) q4783 mvX12_spellDigits t15 rfl dX12_spellReal_96 (xle (xal1 (rv_cat _) (xal2 rfl (xal1 rfl xal0))) (by decide)) (xfr g16) (xlo xsw0 (by decide) g17) (xKv hq (fun h18 hq e20 => ?_) (fun _ _ q _ => q))
  replace hq := hq e20
  exact x_vret rfl dX12_spellReal_99 hq
set_option maxRecDepth 100000 in
def bX12_spellReal_12 (G : xG) (fr lo : Nat) (x0 : Nat) (x1 : UInt64) (x3 : Int32) (x4 : Int32) (s0 : UInt64) (h : xH) (Q : Outcome → xH → Prop) : Prop := ((x4 = (-1) → bX12_spellReal_100 G fr lo x0 x1 x3 s0 h Q) ∧ (¬ x4 = (-1) → ((0 ≤ (Op.cmpValue (FP.dcmp s0 4741671816366391296) .g) → bX12_spellReal_100 G fr lo x0 x1 x3 s0 h Q) ∧ (¬ 0 ≤ (Op.cmpValue (FP.dcmp s0 4741671816366391296) .g) → 1 ≤ fr ∧ 15 ≤ lo ∧ xRd G YX12_power (fr - 1) (lo - 15) [.int x4] h (fun x6 h5 => xext h h5 → vf_n64 (FP.dmul s0 x6) ∧ vf_n64 (FP.dadd (FP.dmul s0 x6) 4602678819172646912) ∧ ((0 ≤ (Op.cmpValue (FP.dcmp x1 FP.dconst0) .g) → bX12_spellReal_72 G fr lo x0 x4 (FP.d2l (FP.dadd (FP.dmul s0 x6) 4602678819172646912)) (FP.d2l x6) h5 Q) ∧ (¬ 0 ≤ (Op.cmpValue (FP.dcmp x1 FP.dconst0) .g) → (((lg_cmp (FP.d2l (FP.dadd (FP.dmul s0 x6) 4602678819172646912)) 0) = 0 → bX12_spellReal_72 G fr lo x0 x4 (FP.d2l (FP.dadd (FP.dmul s0 x6) 4602678819172646912)) (FP.d2l x6) h5 Q) ∧ (¬ (lg_cmp (FP.d2l (FP.dadd (FP.dmul s0 x6) 4602678819172646912)) 0) = 0 → tg h5 x0 = 13 ∧ 1 ≤ fr ∧ 13 ≤ lo ∧ xRv G YX12_say (fr - 1) (lo - 13) [rv x0, .int 45] h5 (fun h15 => xext h5 h15 → bX12_spellReal_72 G fr lo x0 x4 (FP.d2l (FP.dadd (FP.dmul s0 x6) 4602678819172646912)) (FP.d2l x6) h15 Q) (fun r h2 => Q (.threw r) h2)))))) (fun r h2 => Q (.threw r) h2)))))
set_option maxRecDepth 100000 in
theorem uX12_spellReal_12 {G : xG} {fr lo : Nat} {x0 : Nat} {x1 : UInt64} {x3 : Int32} {x4 : Int32} {s0 : UInt64} {h : xH} {Q : Outcome → xH → Prop} (hq : bX12_spellReal_12 G fr lo x0 x1 x3 x4 s0 h Q) : xP G YX12_spellReal fr lo 12 [(0, rv x0), (1, .double x1), (3, .int x3), (4, .int x4)] [.double s0] h Q := by
  unfold bX12_spellReal_12 at hq
  refine x_dstore (lv' := [(5, .double s0), (0, rv x0), (1, .double x1), (3, .int x3), (4, .int x4)]) dX12_spellReal_12 (by decide) rfl ?_
  refine x_iload 4 dX12_spellReal_14 rfl ?_
  refine x_iconst (v := (-1)) dX12_spellReal_16 (by decide) ?_
  refine x_icmp_eq (tgt := 100) dX12_spellReal_17 (by decide) (fun c1 => ?_) (fun c1 => ?_)
  · replace hq := hq.1 c1
    refine xP.pick (lv' := [(0, rv x0), (1, .double x1), (3, .int x3), (5, .double s0)]) [1, 2, 3, 0] rfl ?_
    exact uX12_spellReal_100 hq
  · replace hq := hq.2 c1
    refine x_dload 0 dX12_spellReal_20 rfl ?_
    refine x_ldc2d (v := 4741671816366391296) q4778 dX12_spellReal_22 ?_
    refine x_dcmp dX12_spellReal_25 ?_
    refine x_if_ge (tgt := 100) dX12_spellReal_26 (by decide) (fun c2 => ?_) (fun c2 => ?_)
    · replace hq := hq.1 c2
      refine xP.pick (lv' := [(0, rv x0), (1, .double x1), (3, .int x3), (5, .double s0)]) [1, 2, 3, 0] rfl ?_
      exact uX12_spellReal_100 hq
    · replace hq := hq.2 c2
      refine x_iload 4 dX12_spellReal_29 rfl ?_
      obtain ⟨g3, g4, hq⟩ := hq
      refine x_callS (Yc := YX12_power) (as := [.int x4]) (st := []) q3760 msX12_power rfl dX12_spellReal_31 (xle (xal1 rfl xal0) (by decide)) (xfr g3) (xlo xsw0 (by decide) g4) (xKd hq (fun x6 h5 hq e7 => ?_) (fun _ _ q _ => q))
      replace hq := hq e7
      refine x_dstore (lv' := [(7, .double x6), (5, .double s0), (0, rv x0), (1, .double x1), (3, .int x3), (4, .int x4)]) dX12_spellReal_34 (by decide) rfl ?_
      refine x_dload 1 dX12_spellReal_36 rfl ?_
      refine x_dload 0 dX12_spellReal_38 rfl ?_
      obtain ⟨g8, hq⟩ := hq
      refine x_dmul dX12_spellReal_40 g8 ?_
      refine x_ldc2d (v := 4602678819172646912) q4605 dX12_spellReal_41 ?_
      obtain ⟨g9, hq⟩ := hq
      refine x_dadd dX12_spellReal_44 g9 ?_
      refine x_d2l dX12_spellReal_45 ?_
      refine x_lstore (lv' := [(9, .long (FP.d2l (FP.dadd (FP.dmul s0 x6) 4602678819172646912))), (7, .double x6), (5, .double s0), (0, rv x0), (1, .double x1), (3, .int x3), (4, .int x4)]) dX12_spellReal_46 (by decide) rfl ?_
      refine x_dload 1 dX12_spellReal_48 rfl ?_
      refine x_d2l dX12_spellReal_50 ?_
      refine x_lstore (lv' := [(11, .long (FP.d2l x6)), (9, .long (FP.d2l (FP.dadd (FP.dmul s0 x6) 4602678819172646912))), (7, .double x6), (5, .double s0), (0, rv x0), (1, .double x1), (3, .int x3), (4, .int x4)]) dX12_spellReal_51 (by decide) rfl ?_
      refine x_dload_n 5 dX12_spellReal_53 rfl ?_
      refine x_dconst0 dX12_spellReal_54 ?_
      refine x_dcmp dX12_spellReal_55 ?_
      refine x_if_ge (tgt := 72) dX12_spellReal_56 (by decide) (fun c10 => ?_) (fun c10 => ?_)
      · replace hq := hq.1 c10
        refine xP.pick (lv' := [(0, rv x0), (4, .int x4), (9, .long (FP.d2l (FP.dadd (FP.dmul s0 x6) 4602678819172646912))), (11, .long (FP.d2l x6))]) [4, 7, 1, 0] rfl ?_
        exact uX12_spellReal_72 hq
      · replace hq := hq.2 c10
        refine x_lload 1 dX12_spellReal_59 rfl ?_
        refine x_lconst (v := 0) dX12_spellReal_61 (by decide) ?_
        refine x_lcmp dX12_spellReal_62 ?_
        refine x_if_eq (tgt := 72) dX12_spellReal_63 (by decide) (fun c11 => ?_) (fun c11 => ?_)
        · replace hq := hq.1 c11
          refine xP.pick (lv' := [(0, rv x0), (4, .int x4), (9, .long (FP.d2l (FP.dadd (FP.dmul s0 x6) 4602678819172646912))), (11, .long (FP.d2l x6))]) [4, 7, 1, 0] rfl ?_
          exact uX12_spellReal_72 hq
        · replace hq := hq.2 c11
          refine x_aload_n 4 dX12_spellReal_66 rfl ?_
          refine x_bipush (v := 45) dX12_spellReal_67 (by decide) ?_
          obtain ⟨g12, hq⟩ := hq
          obtain ⟨g13, g14, hq⟩ := hq
          refine x_callV (Yc := YX12_say) (as := [.int 45]) (st := []) q4779 mvX12_say g12 rfl dX12_spellReal_69 (xle (xal1 (rv_cat _) (xal1 rfl xal0)) (by decide)) (xfr g13) (xlo xsw0 (by decide) g14) (xKv hq (fun h15 hq e17 => ?_) (fun _ _ q _ => q))
          replace hq := hq e17
          refine xP.pick (lv' := [(0, rv x0), (4, .int x4), (9, .long (FP.d2l (FP.dadd (FP.dmul s0 x6) 4602678819172646912))), (11, .long (FP.d2l x6))]) [4, 7, 1, 0] rfl ?_
          exact uX12_spellReal_72 hq
set_option maxRecDepth 100000 in
def bX12_spellReal (G : xG) (fr lo : Nat) (x0 : Nat) (x1 : UInt64) (x3 : Int32) (x4 : Int32) (h : xH) (Q : Outcome → xH → Prop) : Prop := ((0 ≤ (Op.cmpValue (FP.dcmp x1 FP.dconst0) .g) → bX12_spellReal_12 G fr lo x0 x1 x3 x4 x1 h Q) ∧ (¬ 0 ≤ (Op.cmpValue (FP.dcmp x1 FP.dconst0) .g) → bX12_spellReal_12 G fr lo x0 x1 x3 x4 (FP.dneg x1) h Q))
set_option maxRecDepth 100000 in
theorem uX12_spellReal {G : xG} {fr lo : Nat} {x0 : Nat} {x1 : UInt64} {x3 : Int32} {x4 : Int32} {h : xH} {Q : Outcome → xH → Prop} (hq : bX12_spellReal G fr lo x0 x1 x3 x4 h Q) : xP G YX12_spellReal fr lo 0 [(0, rv x0), (1, .double x1), (3, .int x3), (4, .int x4)] [] h Q := by
  unfold bX12_spellReal at hq
  refine x_dload_n 1 dX12_spellReal_0 rfl ?_
  refine x_dconst0 dX12_spellReal_1 ?_
  refine x_dcmp dX12_spellReal_2 ?_
  refine x_if_ge (tgt := 11) dX12_spellReal_3 (by decide) (fun c1 => ?_) (fun c1 => ?_)
  · replace hq := hq.1 c1
    refine x_dload_n 1 dX12_spellReal_11 rfl ?_
    exact uX12_spellReal_12 hq
  · replace hq := hq.2 c1
    refine x_dload_n 1 dX12_spellReal_6 rfl ?_
    refine x_dneg dX12_spellReal_7 ?_
    refine x_goto (tgt := 12) dX12_spellReal_8 (by decide) ?_
    exact uX12_spellReal_12 hq
theorem rX12_spellReal {G : xG} {fr lo : Nat} {x0 : Nat} {x1 : UInt64} {x3 : Int32} {x4 : Int32} {h : xH} {Q : Outcome → xH → Prop} (hq : bX12_spellReal G fr lo x0 x1 x3 x4 h Q) : xR G YX12_spellReal fr lo [rv x0, .double x1, .int x3, .int x4] h Q := by
  show xP _ _ _ _ _ (lv_args 0 _) _ _ _
  rw [show lv_args 0 [rv x0, .double x1, .int x3, .int x4] = [(0, rv x0), (1, .double x1), (3, .int x3), (4, .int x4)] from (xla1 (rv_cat _) (xla2 rfl (xla1 rfl (xla1 rfl xla0))))]
  exact uX12_spellReal hq
set_option maxRecDepth 100000 in
theorem dX12_say_0 : decode cX12_say 0 = .ok (.aload_n 0, 1) := by decide +kernel
set_option maxRecDepth 100000 in
theorem dX12_say_1 : decode cX12_say 1 = .ok (.getfield 244, 3) := by decide +kernel
set_option maxRecDepth 100000 in
theorem dX12_say_4 : decode cX12_say 4 = .ok (.aload_n 0, 1) := by decide +kernel
set_option maxRecDepth 100000 in
theorem dX12_say_5 : decode cX12_say 5 = .ok (.getfield 1468, 3) := by decide +kernel
set_option maxRecDepth 100000 in
theorem dX12_say_8 : decode cX12_say 8 = .ok (.iload_n 1, 1) := by decide +kernel
set_option maxRecDepth 100000 in
theorem dX12_say_9 : decode cX12_say 9 = .ok (.iastore, 1) := by decide +kernel
set_option maxRecDepth 100000 in
theorem dX12_say_10 : decode cX12_say 10 = .ok (.aload_n 0, 1) := by decide +kernel
set_option maxRecDepth 100000 in
theorem dX12_say_11 : decode cX12_say 11 = .ok (.dup, 1) := by decide +kernel
set_option maxRecDepth 100000 in
theorem dX12_say_12 : decode cX12_say 12 = .ok (.getfield 1468, 3) := by decide +kernel
set_option maxRecDepth 100000 in
theorem dX12_say_15 : decode cX12_say 15 = .ok (.iconst 1, 1) := by decide +kernel
set_option maxRecDepth 100000 in
theorem dX12_say_16 : decode cX12_say 16 = .ok (.iadd, 1) := by decide +kernel
set_option maxRecDepth 100000 in
theorem dX12_say_17 : decode cX12_say 17 = .ok (.putfield 1468, 3) := by decide +kernel
set_option maxRecDepth 100000 in
theorem dX12_say_20 : decode cX12_say 20 = .ok (.return_, 1) := by decide +kernel
set_option maxRecDepth 100000 in
def bX12_say (G : xG) (fr lo : Nat) (x0 : Nat) (x1 : Int32) (h : xH) (Q : Outcome → xH → Prop) : Prop := tg h x0 = 13 ∧ tg h (fR h x0 3199) = 100 ∧ vp_in (fI h x0 3200) (ln h (fR h x0 3199)) ∧ (∀ h4 : xH, h4 = tI h (fR h x0 3199) (Int32.toNatClampNeg (fI h x0 3200)) x1 → (∀ h7 : xH, h7 = sI h4 x0 3200 ((fI h4 x0 3200) + 1) → Q (.returned none) h7))
set_option maxRecDepth 100000 in
theorem uX12_say {G : xG} {fr lo : Nat} {x0 : Nat} {x1 : Int32} {h : xH} {Q : Outcome → xH → Prop} (hq : bX12_say G fr lo x0 x1 h Q) : xP G YX12_say fr lo 0 [(0, rv x0), (1, .int x1)] [] h Q := by
  unfold bX12_say at hq
  refine x_aload_n 0 dX12_say_0 rfl ?_
  obtain ⟨g1, hq⟩ := hq
  refine x_get (v := rv (fR h x0 3199)) fdX12_244 dX12_say_1 g1 rfl ?_
  refine x_aload_n 0 dX12_say_4 rfl ?_
  refine x_get (v := .int (fI h x0 3200)) fdX12_1468 dX12_say_5 g1 rfl ?_
  refine x_iload_n 1 dX12_say_8 rfl ?_
  obtain ⟨g2, hq⟩ := hq
  obtain ⟨i3, hq⟩ := hq
  obtain ⟨h4, e5⟩ : ∃ y, y = tI h (fR h x0 3199) (Int32.toNatClampNeg (fI h x0 3200)) x1 := ⟨_, rfl⟩
  replace hq := hq h4 e5
  refine x_iast' g2 i3 dX12_say_9 e5 ?_
  refine x_aload_n 0 dX12_say_10 rfl ?_
  refine x_dup dX12_say_11 (rv_cat _) ?_
  have t6 : tg h4 x0 = 13 := by rw [e5]; exact g1
  refine x_get (v := .int (fI h4 x0 3200)) fdX12_1468 dX12_say_12 t6 rfl ?_
  refine x_iconst (v := 1) dX12_say_15 (by decide) ?_
  refine x_iadd dX12_say_16 ?_
  obtain ⟨h7, e8⟩ : ∃ y, y = sI h4 x0 3200 ((fI h4 x0 3200) + 1) := ⟨_, rfl⟩
  replace hq := hq h7 e8
  refine x_putI fdX12_1468 xty_I1 dX12_say_17 t6 (Or.inl (by rw [t6]; rfl)) xnI rfl e8 ?_
  exact x_vret rfl dX12_say_20 hq
theorem rX12_say {G : xG} {fr lo : Nat} {x0 : Nat} {x1 : Int32} {h : xH} {Q : Outcome → xH → Prop} (hq : bX12_say G fr lo x0 x1 h Q) : xR G YX12_say fr lo [rv x0, .int x1] h Q := by
  show xP _ _ _ _ _ (lv_args 0 _) _ _ _
  rw [show lv_args 0 [rv x0, .int x1] = [(0, rv x0), (1, .int x1)] from (xla1 (rv_cat _) (xla1 rfl xla0))]
  exact uX12_say hq
set_option maxRecDepth 100000 in
theorem dX12_spellDigits_0 : decode cX12_spellDigits 0 = .ok (.lconst 1, 1) := by decide +kernel
set_option maxRecDepth 100000 in
theorem dX12_spellDigits_1 : decode cX12_spellDigits 1 = .ok (.lstore 4, 2) := by decide +kernel
set_option maxRecDepth 100000 in
theorem dX12_spellDigits_3 : decode cX12_spellDigits 3 = .ok (.iconst 1, 1) := by decide +kernel
set_option maxRecDepth 100000 in
theorem dX12_spellDigits_4 : decode cX12_spellDigits 4 = .ok (.istore 6, 2) := by decide +kernel
set_option maxRecDepth 100000 in
theorem dX12_spellDigits_6 : decode cX12_spellDigits 6 = .ok (.lload_n 1, 1) := by decide +kernel
set_option maxRecDepth 100000 in
theorem dX12_spellDigits_7 : decode cX12_spellDigits 7 = .ok (.lload 4, 2) := by decide +kernel
set_option maxRecDepth 100000 in
theorem dX12_spellDigits_9 : decode cX12_spellDigits 9 = .ok (.ldiv, 1) := by decide +kernel
set_option maxRecDepth 100000 in
theorem dX12_spellDigits_10 : decode cX12_spellDigits 10 = .ok (.ldc2_w 389, 3) := by decide +kernel
set_option maxRecDepth 100000 in
theorem dX12_spellDigits_13 : decode cX12_spellDigits 13 = .ok (.lcmp, 1) := by decide +kernel
set_option maxRecDepth 100000 in
theorem dX12_spellDigits_14 : decode cX12_spellDigits 14 = .ok (.ifCond .ge 9, 3) := by decide +kernel
set_option maxRecDepth 100000 in
theorem dX12_spellDigits_17 : decode cX12_spellDigits 17 = .ok (.iload 6, 2) := by decide +kernel
set_option maxRecDepth 100000 in
theorem dX12_spellDigits_19 : decode cX12_spellDigits 19 = .ok (.iload_n 3, 1) := by decide +kernel
set_option maxRecDepth 100000 in
theorem dX12_spellDigits_20 : decode cX12_spellDigits 20 = .ok (.if_icmp .ge 17, 3) := by decide +kernel
set_option maxRecDepth 100000 in
theorem dX12_spellDigits_23 : decode cX12_spellDigits 23 = .ok (.lload 4, 2) := by decide +kernel
set_option maxRecDepth 100000 in
theorem dX12_spellDigits_25 : decode cX12_spellDigits 25 = .ok (.ldc2_w 389, 3) := by decide +kernel
set_option maxRecDepth 100000 in
theorem dX12_spellDigits_28 : decode cX12_spellDigits 28 = .ok (.lmul, 1) := by decide +kernel
set_option maxRecDepth 100000 in
theorem dX12_spellDigits_29 : decode cX12_spellDigits 29 = .ok (.lstore 4, 2) := by decide +kernel
set_option maxRecDepth 100000 in
theorem dX12_spellDigits_31 : decode cX12_spellDigits 31 = .ok (.iinc 6 1, 3) := by decide +kernel
set_option maxRecDepth 100000 in
theorem dX12_spellDigits_34 : decode cX12_spellDigits 34 = .ok (.goto (-28), 3) := by decide +kernel
set_option maxRecDepth 100000 in
theorem dX12_spellDigits_37 : decode cX12_spellDigits 37 = .ok (.lload 4, 2) := by decide +kernel
set_option maxRecDepth 100000 in
theorem dX12_spellDigits_39 : decode cX12_spellDigits 39 = .ok (.lconst 0, 1) := by decide +kernel
set_option maxRecDepth 100000 in
theorem dX12_spellDigits_40 : decode cX12_spellDigits 40 = .ok (.lcmp, 1) := by decide +kernel
set_option maxRecDepth 100000 in
theorem dX12_spellDigits_41 : decode cX12_spellDigits 41 = .ok (.ifCond .le 30, 3) := by decide +kernel
set_option maxRecDepth 100000 in
theorem dX12_spellDigits_44 : decode cX12_spellDigits 44 = .ok (.aload_n 0, 1) := by decide +kernel
set_option maxRecDepth 100000 in
theorem dX12_spellDigits_45 : decode cX12_spellDigits 45 = .ok (.lload_n 1, 1) := by decide +kernel
set_option maxRecDepth 100000 in
theorem dX12_spellDigits_46 : decode cX12_spellDigits 46 = .ok (.lload 4, 2) := by decide +kernel
set_option maxRecDepth 100000 in
theorem dX12_spellDigits_48 : decode cX12_spellDigits 48 = .ok (.ldiv, 1) := by decide +kernel
set_option maxRecDepth 100000 in
theorem dX12_spellDigits_49 : decode cX12_spellDigits 49 = .ok (.ldc2_w 389, 3) := by decide +kernel
set_option maxRecDepth 100000 in
theorem dX12_spellDigits_52 : decode cX12_spellDigits 52 = .ok (.lrem, 1) := by decide +kernel
set_option maxRecDepth 100000 in
theorem dX12_spellDigits_53 : decode cX12_spellDigits 53 = .ok (.l2i, 1) := by decide +kernel
set_option maxRecDepth 100000 in
theorem dX12_spellDigits_54 : decode cX12_spellDigits 54 = .ok (.bipush 48, 2) := by decide +kernel
set_option maxRecDepth 100000 in
theorem dX12_spellDigits_56 : decode cX12_spellDigits 56 = .ok (.iadd, 1) := by decide +kernel
set_option maxRecDepth 100000 in
theorem dX12_spellDigits_57 : decode cX12_spellDigits 57 = .ok (.invokevirtual 1487, 3) := by decide +kernel
set_option maxRecDepth 100000 in
theorem dX12_spellDigits_60 : decode cX12_spellDigits 60 = .ok (.lload 4, 2) := by decide +kernel
set_option maxRecDepth 100000 in
theorem dX12_spellDigits_62 : decode cX12_spellDigits 62 = .ok (.ldc2_w 389, 3) := by decide +kernel
set_option maxRecDepth 100000 in
theorem dX12_spellDigits_65 : decode cX12_spellDigits 65 = .ok (.ldiv, 1) := by decide +kernel
set_option maxRecDepth 100000 in
theorem dX12_spellDigits_66 : decode cX12_spellDigits 66 = .ok (.lstore 4, 2) := by decide +kernel
set_option maxRecDepth 100000 in
theorem dX12_spellDigits_68 : decode cX12_spellDigits 68 = .ok (.goto (-31), 3) := by decide +kernel
set_option maxRecDepth 100000 in
theorem dX12_spellDigits_71 : decode cX12_spellDigits 71 = .ok (.return_, 1) := by decide +kernel
def lX12_spellDigits_6 (G : xG) (fr lo : Nat) (x0 : Nat) (x1 : Int64) (x3 : Int32) (x4 : Int64) (x6 : Int32) (h : xH) (Q : Outcome → xH → Prop) : Prop := xP G YX12_spellDigits fr lo 6 [(0, rv x0), (1, .long x1), (3, .int x3), (4, .long x4), (6, .int x6)] [] h Q
def lX12_spellDigits_37 (G : xG) (fr lo : Nat) (x0 : Nat) (x1 : Int64) (x4 : Int64) (h : xH) (Q : Outcome → xH → Prop) : Prop := xP G YX12_spellDigits fr lo 37 [(0, rv x0), (1, .long x1), (4, .long x4)] [] h Q
set_option maxRecDepth 100000 in
def bX12_spellDigits_37 (G : xG) (fr lo : Nat) (x0 : Nat) (x1 : Int64) (x4 : Int64) (h : xH) (Q : Outcome → xH → Prop) : Prop := (((lg_cmp x4 0) ≤ 0 → Q (.returned none) h) ∧ (¬ (lg_cmp x4 0) ≤ 0 → ¬ x4 = 0 ∧ tg h x0 = 13 ∧ 1 ≤ fr ∧ 13 ≤ lo ∧ xRv G YX12_say (fr - 1) (lo - 13) [rv x0, .int ((Int64.toInt32 ((x1 / x4) - (x1 / x4) / 10 * 10)) + 48)] h (fun h6 => xext h h6 → lX12_spellDigits_37 G fr lo x0 x1 (x4 / 10) h6 Q) (fun r h2 => Q (.threw r) h2)))
set_option maxRecDepth 100000 in
theorem uX12_spellDigits_37 {G : xG} {fr lo : Nat} {x0 : Nat} {x1 : Int64} {x4 : Int64} {h : xH} {Q : Outcome → xH → Prop} (hq : bX12_spellDigits_37 G fr lo x0 x1 x4 h Q) : xP G YX12_spellDigits fr lo 37 [(0, rv x0), (1, .long x1), (4, .long x4)] [] h Q := by
  unfold bX12_spellDigits_37 at hq
  refine x_lload 2 dX12_spellDigits_37 rfl ?_
  refine x_lconst (v := 0) dX12_spellDigits_39 (by decide) ?_
  refine x_lcmp dX12_spellDigits_40 ?_
  refine x_if_le (tgt := 71) dX12_spellDigits_41 (by decide) (fun c1 => ?_) (fun c1 => ?_)
  · replace hq := hq.1 c1
    exact x_vret rfl dX12_spellDigits_71 hq
  · replace hq := hq.2 c1
    refine x_aload_n 0 dX12_spellDigits_44 rfl ?_
    refine x_lload_n 1 dX12_spellDigits_45 rfl ?_
    refine x_lload 2 dX12_spellDigits_46 rfl ?_
    obtain ⟨g2, hq⟩ := hq
    refine x_ldiv dX12_spellDigits_48 g2 ?_
    refine x_ldc2 (v := 10) q3750 dX12_spellDigits_49 ?_
    refine x_lrem dX12_spellDigits_52 (by decide) ?_
    refine x_l2i dX12_spellDigits_53 ?_
    refine x_bipush (v := 48) dX12_spellDigits_54 (by decide) ?_
    refine x_iadd dX12_spellDigits_56 ?_
    obtain ⟨g3, hq⟩ := hq
    obtain ⟨g4, g5, hq⟩ := hq
    refine x_callV (Yc := YX12_say) (as := [.int ((Int64.toInt32 ((x1 / x4) - (x1 / x4) / 10 * 10)) + 48)]) (st := []) q4779 mvX12_say g3 rfl dX12_spellDigits_57 (xle (xal1 (rv_cat _) (xal1 rfl xal0)) (by decide)) (xfr g4) (xlo xsw0 (by decide) g5) (xKv hq (fun h6 hq e8 => ?_) (fun _ _ q _ => q))
    replace hq := hq e8
    refine x_lload 2 dX12_spellDigits_60 rfl ?_
    refine x_ldc2 (v := 10) q3750 dX12_spellDigits_62 ?_
    refine x_ldiv dX12_spellDigits_65 (by decide) ?_
    refine x_lstore (lv' := [(4, .long (x4 / 10)), (0, rv x0), (1, .long x1)]) dX12_spellDigits_66 (by decide) rfl ?_
    refine x_goto (tgt := 37) dX12_spellDigits_68 (by decide) ?_
    refine xP.pick (lv' := [(0, rv x0), (1, .long x1), (4, .long (x4 / 10))]) [1, 2, 0] rfl ?_
    exact hq
set_option maxRecDepth 100000 in
def bX12_spellDigits_23 (G : xG) (fr lo : Nat) (x0 : Nat) (x1 : Int64) (x3 : Int32) (x4 : Int64) (x6 : Int32) (h : xH) (Q : Outcome → xH → Prop) : Prop := lX12_spellDigits_6 G fr lo x0 x1 x3 (x4 * 10) (x6 + 1) h Q
set_option maxRecDepth 100000 in
theorem uX12_spellDigits_23 {G : xG} {fr lo : Nat} {x0 : Nat} {x1 : Int64} {x3 : Int32} {x4 : Int64} {x6 : Int32} {h : xH} {Q : Outcome → xH → Prop} (hq : bX12_spellDigits_23 G fr lo x0 x1 x3 x4 x6 h Q) : xP G YX12_spellDigits fr lo 23 [(0, rv x0), (1, .long x1), (3, .int x3), (4, .long x4), (6, .int x6)] [] h Q := by
  unfold bX12_spellDigits_23 at hq
  refine x_lload 3 dX12_spellDigits_23 rfl ?_
  refine x_ldc2 (v := 10) q3750 dX12_spellDigits_25 ?_
  refine x_lmul dX12_spellDigits_28 ?_
  refine x_lstore (lv' := [(4, .long (x4 * 10)), (0, rv x0), (1, .long x1), (3, .int x3), (6, .int x6)]) dX12_spellDigits_29 (by decide) rfl ?_
  refine x_iinc (lv' := [(6, .int (x6 + 1)), (4, .long (x4 * 10)), (0, rv x0), (1, .long x1), (3, .int x3)]) 4 dX12_spellDigits_31 rfl (by decide) rfl ?_
  refine x_goto (tgt := 6) dX12_spellDigits_34 (by decide) ?_
  refine xP.pick (lv' := [(0, rv x0), (1, .long x1), (3, .int x3), (4, .long (x4 * 10)), (6, .int (x6 + 1))]) [2, 3, 4, 1, 0] rfl ?_
  exact hq
set_option maxRecDepth 100000 in
def bX12_spellDigits_6 (G : xG) (fr lo : Nat) (x0 : Nat) (x1 : Int64) (x3 : Int32) (x4 : Int64) (x6 : Int32) (h : xH) (Q : Outcome → xH → Prop) : Prop := ¬ x4 = 0 ∧ ((0 ≤ (lg_cmp (x1 / x4) 10) → bX12_spellDigits_23 G fr lo x0 x1 x3 x4 x6 h Q) ∧ (¬ 0 ≤ (lg_cmp (x1 / x4) 10) → ((x3 ≤ x6 → lX12_spellDigits_37 G fr lo x0 x1 x4 h Q) ∧ (¬ x3 ≤ x6 → bX12_spellDigits_23 G fr lo x0 x1 x3 x4 x6 h Q))))
set_option maxRecDepth 100000 in
theorem uX12_spellDigits_6 {G : xG} {fr lo : Nat} {x0 : Nat} {x1 : Int64} {x3 : Int32} {x4 : Int64} {x6 : Int32} {h : xH} {Q : Outcome → xH → Prop} (hq : bX12_spellDigits_6 G fr lo x0 x1 x3 x4 x6 h Q) : xP G YX12_spellDigits fr lo 6 [(0, rv x0), (1, .long x1), (3, .int x3), (4, .long x4), (6, .int x6)] [] h Q := by
  unfold bX12_spellDigits_6 at hq
  refine x_lload_n 1 dX12_spellDigits_6 rfl ?_
  refine x_lload 3 dX12_spellDigits_7 rfl ?_
  obtain ⟨g1, hq⟩ := hq
  refine x_ldiv dX12_spellDigits_9 g1 ?_
  refine x_ldc2 (v := 10) q3750 dX12_spellDigits_10 ?_
  refine x_lcmp dX12_spellDigits_13 ?_
  refine x_if_ge (tgt := 23) dX12_spellDigits_14 (by decide) (fun c2 => ?_) (fun c2 => ?_)
  · replace hq := hq.1 c2
    exact uX12_spellDigits_23 hq
  · replace hq := hq.2 c2
    refine x_iload 4 dX12_spellDigits_17 rfl ?_
    refine x_iload_n 2 dX12_spellDigits_19 rfl ?_
    refine x_icmp_ge (tgt := 37) dX12_spellDigits_20 (by decide) (fun c3 => ?_) (fun c3 => ?_)
    · replace hq := hq.1 c3
      refine xP.pick (lv' := [(0, rv x0), (1, .long x1), (4, .long x4)]) [0, 1, 3] rfl ?_
      exact hq
    · replace hq := hq.2 c3
      exact uX12_spellDigits_23 hq
set_option maxRecDepth 100000 in
def bX12_spellDigits (G : xG) (fr lo : Nat) (x0 : Nat) (x1 : Int64) (x3 : Int32) (h : xH) (Q : Outcome → xH → Prop) : Prop := lX12_spellDigits_6 G fr lo x0 x1 x3 1 1 h Q
set_option maxRecDepth 100000 in
theorem uX12_spellDigits {G : xG} {fr lo : Nat} {x0 : Nat} {x1 : Int64} {x3 : Int32} {h : xH} {Q : Outcome → xH → Prop} (hq : bX12_spellDigits G fr lo x0 x1 x3 h Q) : xP G YX12_spellDigits fr lo 0 [(0, rv x0), (1, .long x1), (3, .int x3)] [] h Q := by
  unfold bX12_spellDigits at hq
  refine x_lconst (v := 1) dX12_spellDigits_0 (by decide) ?_
  refine x_lstore (lv' := [(4, .long 1), (0, rv x0), (1, .long x1), (3, .int x3)]) dX12_spellDigits_1 (by decide) rfl ?_
  refine x_iconst (v := 1) dX12_spellDigits_3 (by decide) ?_
  refine x_istore (lv' := [(6, .int 1), (4, .long 1), (0, rv x0), (1, .long x1), (3, .int x3)]) dX12_spellDigits_4 (by decide) rfl ?_
  refine xP.pick (lv' := [(0, rv x0), (1, .long x1), (3, .int x3), (4, .long 1), (6, .int 1)]) [2, 3, 4, 1, 0] rfl ?_
  exact hq
theorem rX12_spellDigits {G : xG} {fr lo : Nat} {x0 : Nat} {x1 : Int64} {x3 : Int32} {h : xH} {Q : Outcome → xH → Prop} (hq : bX12_spellDigits G fr lo x0 x1 x3 h Q) : xR G YX12_spellDigits fr lo [rv x0, .long x1, .int x3] h Q := by
  show xP _ _ _ _ _ (lv_args 0 _) _ _ _
  rw [show lv_args 0 [rv x0, .long x1, .int x3] = [(0, rv x0), (1, .long x1), (3, .int x3)] from (xla1 (rv_cat _) (xla2 rfl (xla1 rfl xla0)))]
  exact uX12_spellDigits hq
set_option maxRecDepth 100000 in
theorem dX12_spellWhole_0 : decode cX12_spellWhole 0 = .ok (.lload_n 1, 1) := by decide +kernel
set_option maxRecDepth 100000 in
theorem dX12_spellWhole_1 : decode cX12_spellWhole 1 = .ok (.lconst 0, 1) := by decide +kernel
set_option maxRecDepth 100000 in
theorem dX12_spellWhole_2 : decode cX12_spellWhole 2 = .ok (.lcmp, 1) := by decide +kernel
set_option maxRecDepth 100000 in
theorem dX12_spellWhole_3 : decode cX12_spellWhole 3 = .ok (.ifCond .ge 9, 3) := by decide +kernel
set_option maxRecDepth 100000 in
theorem dX12_spellWhole_6 : decode cX12_spellWhole 6 = .ok (.aload_n 0, 1) := by decide +kernel
set_option maxRecDepth 100000 in
theorem dX12_spellWhole_7 : decode cX12_spellWhole 7 = .ok (.bipush 45, 2) := by decide +kernel
set_option maxRecDepth 100000 in
theorem dX12_spellWhole_9 : decode cX12_spellWhole 9 = .ok (.invokevirtual 1487, 3) := by decide +kernel
set_option maxRecDepth 100000 in
theorem dX12_spellWhole_12 : decode cX12_spellWhole 12 = .ok (.aload_n 0, 1) := by decide +kernel
set_option maxRecDepth 100000 in
theorem dX12_spellWhole_13 : decode cX12_spellWhole 13 = .ok (.lload_n 1, 1) := by decide +kernel
set_option maxRecDepth 100000 in
theorem dX12_spellWhole_14 : decode cX12_spellWhole 14 = .ok (.lconst 0, 1) := by decide +kernel
set_option maxRecDepth 100000 in
theorem dX12_spellWhole_15 : decode cX12_spellWhole 15 = .ok (.lcmp, 1) := by decide +kernel
set_option maxRecDepth 100000 in
theorem dX12_spellWhole_16 : decode cX12_spellWhole 16 = .ok (.ifCond .ge 8, 3) := by decide +kernel
set_option maxRecDepth 100000 in
theorem dX12_spellWhole_19 : decode cX12_spellWhole 19 = .ok (.lload_n 1, 1) := by decide +kernel
set_option maxRecDepth 100000 in
theorem dX12_spellWhole_20 : decode cX12_spellWhole 20 = .ok (.lneg, 1) := by decide +kernel
set_option maxRecDepth 100000 in
theorem dX12_spellWhole_21 : decode cX12_spellWhole 21 = .ok (.goto 4, 3) := by decide +kernel
set_option maxRecDepth 100000 in
theorem dX12_spellWhole_24 : decode cX12_spellWhole 24 = .ok (.lload_n 1, 1) := by decide +kernel
set_option maxRecDepth 100000 in
theorem dX12_spellWhole_25 : decode cX12_spellWhole 25 = .ok (.iconst 1, 1) := by decide +kernel
set_option maxRecDepth 100000 in
theorem dX12_spellWhole_26 : decode cX12_spellWhole 26 = .ok (.invokevirtual 1490, 3) := by decide +kernel
set_option maxRecDepth 100000 in
theorem dX12_spellWhole_29 : decode cX12_spellWhole 29 = .ok (.return_, 1) := by decide +kernel
set_option maxRecDepth 100000 in
def bX12_spellWhole_25 (G : xG) (fr lo : Nat) (s0 : Int64) (s1 : Nat) (h : xH) (Q : Outcome → xH → Prop) : Prop := tg h s1 = 13 ∧ 1 ≤ fr ∧ 18 ≤ lo ∧ xRv G YX12_spellDigits (fr - 1) (lo - 18) [rv s1, .long s0, .int 1] h (fun h4 => xext h h4 → Q (.returned none) h4) (fun r h2 => Q (.threw r) h2)
set_option maxRecDepth 100000 in
theorem uX12_spellWhole_25 {G : xG} {fr lo : Nat} {s0 : Int64} {s1 : Nat} {h : xH} {Q : Outcome → xH → Prop} (hq : bX12_spellWhole_25 G fr lo s0 s1 h Q) : xP G YX12_spellWhole fr lo 25 [] [.long s0, rv s1] h Q := by
  unfold bX12_spellWhole_25 at hq
  refine x_iconst (v := 1) dX12_spellWhole_25 (by decide) ?_
  obtain ⟨g1, hq⟩ := hq
  obtain ⟨g2, g3, hq⟩ := hq
  refine x_callV (Yc := YX12_spellDigits) (as := [.long s0, .int 1]) (st := []) q4783 mvX12_spellDigits g1 rfl dX12_spellWhole_26 (xle (xal1 (rv_cat _) (xal2 rfl (xal1 rfl xal0))) (by decide)) (xfr g2) (xlo xsw0 (by decide) g3) (xKv hq (fun h4 hq e6 => ?_) (fun _ _ q _ => q))
  replace hq := hq e6
  exact x_vret rfl dX12_spellWhole_29 hq
set_option maxRecDepth 100000 in
def bX12_spellWhole_12 (G : xG) (fr lo : Nat) (x0 : Nat) (x1 : Int64) (h : xH) (Q : Outcome → xH → Prop) : Prop := ((0 ≤ (lg_cmp x1 0) → bX12_spellWhole_25 G fr lo x1 x0 h Q) ∧ (¬ 0 ≤ (lg_cmp x1 0) → bX12_spellWhole_25 G fr lo (-x1) x0 h Q))
set_option maxRecDepth 100000 in
theorem uX12_spellWhole_12 {G : xG} {fr lo : Nat} {x0 : Nat} {x1 : Int64} {h : xH} {Q : Outcome → xH → Prop} (hq : bX12_spellWhole_12 G fr lo x0 x1 h Q) : xP G YX12_spellWhole fr lo 12 [(0, rv x0), (1, .long x1)] [] h Q := by
  unfold bX12_spellWhole_12 at hq
  refine x_aload_n 0 dX12_spellWhole_12 rfl ?_
  refine x_lload_n 1 dX12_spellWhole_13 rfl ?_
  refine x_lconst (v := 0) dX12_spellWhole_14 (by decide) ?_
  refine x_lcmp dX12_spellWhole_15 ?_
  refine x_if_ge (tgt := 24) dX12_spellWhole_16 (by decide) (fun c1 => ?_) (fun c1 => ?_)
  · replace hq := hq.1 c1
    refine x_lload_n 1 dX12_spellWhole_24 rfl ?_
    refine xP.pick (lv' := []) [] rfl ?_
    exact uX12_spellWhole_25 hq
  · replace hq := hq.2 c1
    refine x_lload_n 1 dX12_spellWhole_19 rfl ?_
    refine x_lneg dX12_spellWhole_20 ?_
    refine x_goto (tgt := 25) dX12_spellWhole_21 (by decide) ?_
    refine xP.pick (lv' := []) [] rfl ?_
    exact uX12_spellWhole_25 hq
set_option maxRecDepth 100000 in
def bX12_spellWhole (G : xG) (fr lo : Nat) (x0 : Nat) (x1 : Int64) (h : xH) (Q : Outcome → xH → Prop) : Prop := ((0 ≤ (lg_cmp x1 0) → bX12_spellWhole_12 G fr lo x0 x1 h Q) ∧ (¬ 0 ≤ (lg_cmp x1 0) → tg h x0 = 13 ∧ 1 ≤ fr ∧ 13 ≤ lo ∧ xRv G YX12_say (fr - 1) (lo - 13) [rv x0, .int 45] h (fun h5 => xext h h5 → bX12_spellWhole_12 G fr lo x0 x1 h5 Q) (fun r h2 => Q (.threw r) h2)))
set_option maxRecDepth 100000 in
theorem uX12_spellWhole {G : xG} {fr lo : Nat} {x0 : Nat} {x1 : Int64} {h : xH} {Q : Outcome → xH → Prop} (hq : bX12_spellWhole G fr lo x0 x1 h Q) : xP G YX12_spellWhole fr lo 0 [(0, rv x0), (1, .long x1)] [] h Q := by
  unfold bX12_spellWhole at hq
  refine x_lload_n 1 dX12_spellWhole_0 rfl ?_
  refine x_lconst (v := 0) dX12_spellWhole_1 (by decide) ?_
  refine x_lcmp dX12_spellWhole_2 ?_
  refine x_if_ge (tgt := 12) dX12_spellWhole_3 (by decide) (fun c1 => ?_) (fun c1 => ?_)
  · replace hq := hq.1 c1
    exact uX12_spellWhole_12 hq
  · replace hq := hq.2 c1
    refine x_aload_n 0 dX12_spellWhole_6 rfl ?_
    refine x_bipush (v := 45) dX12_spellWhole_7 (by decide) ?_
    obtain ⟨g2, hq⟩ := hq
    obtain ⟨g3, g4, hq⟩ := hq
    refine x_callV (Yc := YX12_say) (as := [.int 45]) (st := []) q4779 mvX12_say g2 rfl dX12_spellWhole_9 (xle (xal1 (rv_cat _) (xal1 rfl xal0)) (by decide)) (xfr g3) (xlo xsw0 (by decide) g4) (xKv hq (fun h5 hq e7 => ?_) (fun _ _ q _ => q))
    replace hq := hq e7
    exact uX12_spellWhole_12 hq
theorem rX12_spellWhole {G : xG} {fr lo : Nat} {x0 : Nat} {x1 : Int64} {h : xH} {Q : Outcome → xH → Prop} (hq : bX12_spellWhole G fr lo x0 x1 h Q) : xR G YX12_spellWhole fr lo [rv x0, .long x1] h Q := by
  show xP _ _ _ _ _ (lv_args 0 _) _ _ _
  rw [show lv_args 0 [rv x0, .long x1] = [(0, rv x0), (1, .long x1)] from (xla1 (rv_cat _) (xla2 rfl xla0))]
  exact uX12_spellWhole hq
set_option maxRecDepth 100000 in
theorem dX12_spellWord_0 : decode cX12_spellWord 0 = .ok (.iconst 0, 1) := by decide +kernel
set_option maxRecDepth 100000 in
theorem dX12_spellWord_1 : decode cX12_spellWord 1 = .ok (.istore_n 2, 1) := by decide +kernel
set_option maxRecDepth 100000 in
theorem dX12_spellWord_2 : decode cX12_spellWord 2 = .ok (.iload_n 2, 1) := by decide +kernel
set_option maxRecDepth 100000 in
theorem dX12_spellWord_3 : decode cX12_spellWord 3 = .ok (.aload_n 1, 1) := by decide +kernel
set_option maxRecDepth 100000 in
theorem dX12_spellWord_4 : decode cX12_spellWord 4 = .ok (.invokevirtual 289, 3) := by decide +kernel
set_option maxRecDepth 100000 in
theorem dX12_spellWord_7 : decode cX12_spellWord 7 = .ok (.if_icmp .ge 18, 3) := by decide +kernel
set_option maxRecDepth 100000 in
theorem dX12_spellWord_10 : decode cX12_spellWord 10 = .ok (.aload_n 0, 1) := by decide +kernel
set_option maxRecDepth 100000 in
theorem dX12_spellWord_11 : decode cX12_spellWord 11 = .ok (.aload_n 1, 1) := by decide +kernel
set_option maxRecDepth 100000 in
theorem dX12_spellWord_12 : decode cX12_spellWord 12 = .ok (.iload_n 2, 1) := by decide +kernel
set_option maxRecDepth 100000 in
theorem dX12_spellWord_13 : decode cX12_spellWord 13 = .ok (.invokevirtual 294, 3) := by decide +kernel
set_option maxRecDepth 100000 in
theorem dX12_spellWord_16 : decode cX12_spellWord 16 = .ok (.invokevirtual 1487, 3) := by decide +kernel
set_option maxRecDepth 100000 in
theorem dX12_spellWord_19 : decode cX12_spellWord 19 = .ok (.iinc 2 1, 3) := by decide +kernel
set_option maxRecDepth 100000 in
theorem dX12_spellWord_22 : decode cX12_spellWord 22 = .ok (.goto (-20), 3) := by decide +kernel
set_option maxRecDepth 100000 in
theorem dX12_spellWord_25 : decode cX12_spellWord 25 = .ok (.return_, 1) := by decide +kernel
def lX12_spellWord_2 (G : xG) (fr lo : Nat) (x0 : Nat) (x1 : Nat) (x2 : Int32) (h : xH) (Q : Outcome → xH → Prop) : Prop := xP G YX12_spellWord fr lo 2 [(0, rv x0), (1, rv x1), (2, .int x2)] [] h Q
set_option maxRecDepth 100000 in
def bX12_spellWord_2 (G : xG) (fr lo : Nat) (x0 : Nat) (x1 : Nat) (x2 : Int32) (h : xH) (Q : Outcome → xH → Prop) : Prop := tg h x1 = 31 ∧ 1 ≤ fr ∧ 13 ≤ lo ∧ xRi G YJ5_length (fr - 1) (lo - 13) [rv x1] h (fun x5 h4 => xext h h4 → ((x5 ≤ x2 → Q (.returned none) h4) ∧ (¬ x5 ≤ x2 → 1 ≤ fr ∧ 14 ≤ lo ∧ xRi G YJ5_charAt (fr - 1) (lo - 14) [rv x1, .int x2] h4 (fun x12 h11 => xext h4 h11 → tg h11 x0 = 13 ∧ 1 ≤ fr ∧ 13 ≤ lo ∧ xRv G YX12_say (fr - 1) (lo - 13) [rv x0, .int x12] h11 (fun h17 => xext h11 h17 → lX12_spellWord_2 G fr lo x0 x1 (x2 + 1) h17 Q) (fun r h2 => Q (.threw r) h2)) (fun r h2 => Q (.threw r) h2)))) (fun r h2 => Q (.threw r) h2)
set_option maxRecDepth 100000 in
theorem uX12_spellWord_2 {G : xG} {fr lo : Nat} {x0 : Nat} {x1 : Nat} {x2 : Int32} {h : xH} {Q : Outcome → xH → Prop} (hq : bX12_spellWord_2 G fr lo x0 x1 x2 h Q) : xP G YX12_spellWord fr lo 2 [(0, rv x0), (1, rv x1), (2, .int x2)] [] h Q := by
  unfold bX12_spellWord_2 at hq
  refine x_iload_n 2 dX12_spellWord_2 rfl ?_
  refine x_aload_n 1 dX12_spellWord_3 rfl ?_
  obtain ⟨g1, hq⟩ := hq
  obtain ⟨g2, g3, hq⟩ := hq
  refine x_callV (Yc := YJ5_length) (as := []) (st := [.int x2]) q3710 mvJ5_length g1 rfl dX12_spellWord_4 (xle (xal1 (rv_cat _) xal0) (by decide)) (xfr g2) (xlo (xsw1 rfl xsw0) (by decide) g3) (xKi hq (fun x5 h4 hq e6 => ?_) (fun _ _ q _ => q))
  replace hq := hq e6
  refine x_icmp_ge (tgt := 25) dX12_spellWord_7 (by decide) (fun c7 => ?_) (fun c7 => ?_)
  · replace hq := hq.1 c7
    exact x_vret rfl dX12_spellWord_25 hq
  · replace hq := hq.2 c7
    refine x_aload_n 0 dX12_spellWord_10 rfl ?_
    refine x_aload_n 1 dX12_spellWord_11 rfl ?_
    refine x_iload_n 2 dX12_spellWord_12 rfl ?_
    have t8 : tg h4 x1 = 31 := e6.tg g1 (by decide)
    obtain ⟨g9, g10, hq⟩ := hq
    refine x_callV (Yc := YJ5_charAt) (as := [.int x2]) (st := [rv x0]) q3711 mvJ5_charAt t8 rfl dX12_spellWord_13 (xle (xal1 (rv_cat _) (xal1 rfl xal0)) (by decide)) (xfr g9) (xlo (xsw1 (rv_cat _) xsw0) (by decide) g10) (xKi hq (fun x12 h11 hq e13 => ?_) (fun _ _ q _ => q))
    replace hq := hq e13
    obtain ⟨g14, hq⟩ := hq
    obtain ⟨g15, g16, hq⟩ := hq
    refine x_callV (Yc := YX12_say) (as := [.int x12]) (st := []) q4779 mvX12_say g14 rfl dX12_spellWord_16 (xle (xal1 (rv_cat _) (xal1 rfl xal0)) (by decide)) (xfr g15) (xlo xsw0 (by decide) g16) (xKv hq (fun h17 hq e19 => ?_) (fun _ _ q _ => q))
    replace hq := hq e19
    refine x_iinc (lv' := [(2, .int (x2 + 1)), (0, rv x0), (1, rv x1)]) 2 dX12_spellWord_19 rfl (by decide) (by first | rfl | (simp [rv_cat, Value.category]; done) | (simp [rv_cat, Value.category]; decide)) ?_
    refine x_goto (tgt := 2) dX12_spellWord_22 (by decide) ?_
    refine xP.pick (lv' := [(0, rv x0), (1, rv x1), (2, .int (x2 + 1))]) [1, 2, 0] rfl ?_
    exact hq
set_option maxRecDepth 100000 in
def bX12_spellWord (G : xG) (fr lo : Nat) (x0 : Nat) (x1 : Nat) (h : xH) (Q : Outcome → xH → Prop) : Prop := lX12_spellWord_2 G fr lo x0 x1 0 h Q
set_option maxRecDepth 100000 in
theorem uX12_spellWord {G : xG} {fr lo : Nat} {x0 : Nat} {x1 : Nat} {h : xH} {Q : Outcome → xH → Prop} (hq : bX12_spellWord G fr lo x0 x1 h Q) : xP G YX12_spellWord fr lo 0 [(0, rv x0), (1, rv x1)] [] h Q := by
  unfold bX12_spellWord at hq
  refine x_iconst (v := 0) dX12_spellWord_0 (by decide) ?_
  refine x_istore_n (lv' := [(2, .int 0), (0, rv x0), (1, rv x1)]) dX12_spellWord_1 (by decide) (by first | rfl | (simp [rv_cat, Value.category]; done) | (simp [rv_cat, Value.category]; decide)) ?_
  refine xP.pick (lv' := [(0, rv x0), (1, rv x1), (2, .int 0)]) [1, 2, 0] rfl ?_
  exact hq
theorem rX12_spellWord {G : xG} {fr lo : Nat} {x0 : Nat} {x1 : Nat} {h : xH} {Q : Outcome → xH → Prop} (hq : bX12_spellWord G fr lo x0 x1 h Q) : xR G YX12_spellWord fr lo [rv x0, rv x1] h Q := by
  show xP _ _ _ _ _ (lv_args 0 _) _ _ _
  rw [show lv_args 0 [rv x0, rv x1] = [(0, rv x0), (1, rv x1)] from (xla1 (rv_cat _) (xla1 (rv_cat _) xla0))]
  exact uX12_spellWord hq
set_option maxRecDepth 100000 in
theorem dX12_writePart_0 : decode cX12_writePart 0 = .ok (.aload_n 0, 1) := by decide +kernel
set_option maxRecDepth 100000 in
theorem dX12_writePart_1 : decode cX12_writePart 1 = .ok (.iload_n 2, 1) := by decide +kernel
set_option maxRecDepth 100000 in
theorem dX12_writePart_2 : decode cX12_writePart 2 = .ok (.invokevirtual 1233, 3) := by decide +kernel
set_option maxRecDepth 100000 in
theorem dX12_writePart_5 : decode cX12_writePart 5 = .ok (.aload_n 0, 1) := by decide +kernel
set_option maxRecDepth 100000 in
theorem dX12_writePart_6 : decode cX12_writePart 6 = .ok (.getfield 1121, 3) := by decide +kernel
set_option maxRecDepth 100000 in
theorem dX12_writePart_9 : decode cX12_writePart 9 = .ok (.ifCond .eq 4, 3) := by decide +kernel
set_option maxRecDepth 100000 in
theorem dX12_writePart_12 : decode cX12_writePart 12 = .ok (.return_, 1) := by decide +kernel
set_option maxRecDepth 100000 in
theorem dX12_writePart_13 : decode cX12_writePart 13 = .ok (.aload_n 0, 1) := by decide +kernel
set_option maxRecDepth 100000 in
theorem dX12_writePart_14 : decode cX12_writePart 14 = .ok (.aload_n 0, 1) := by decide +kernel
set_option maxRecDepth 100000 in
theorem dX12_writePart_15 : decode cX12_writePart 15 = .ok (.getfield 219, 3) := by decide +kernel
set_option maxRecDepth 100000 in
theorem dX12_writePart_18 : decode cX12_writePart 18 = .ok (.iload_n 1, 1) := by decide +kernel
set_option maxRecDepth 100000 in
theorem dX12_writePart_19 : decode cX12_writePart 19 = .ok (.iaload, 1) := by decide +kernel
set_option maxRecDepth 100000 in
theorem dX12_writePart_20 : decode cX12_writePart 20 = .ok (.iconst 1, 1) := by decide +kernel
set_option maxRecDepth 100000 in
theorem dX12_writePart_21 : decode cX12_writePart 21 = .ok (.iadd, 1) := by decide +kernel
set_option maxRecDepth 100000 in
theorem dX12_writePart_22 : decode cX12_writePart 22 = .ok (.aload_n 0, 1) := by decide +kernel
set_option maxRecDepth 100000 in
theorem dX12_writePart_23 : decode cX12_writePart 23 = .ok (.getfield 96, 3) := by decide +kernel
set_option maxRecDepth 100000 in
theorem dX12_writePart_26 : decode cX12_writePart 26 = .ok (.iload_n 2, 1) := by decide +kernel
set_option maxRecDepth 100000 in
theorem dX12_writePart_27 : decode cX12_writePart 27 = .ok (.aaload, 1) := by decide +kernel
set_option maxRecDepth 100000 in
theorem dX12_writePart_28 : decode cX12_writePart 28 = .ok (.aload_n 0, 1) := by decide +kernel
set_option maxRecDepth 100000 in
theorem dX12_writePart_29 : decode cX12_writePart 29 = .ok (.getfield 225, 3) := by decide +kernel
set_option maxRecDepth 100000 in
theorem dX12_writePart_32 : decode cX12_writePart 32 = .ok (.iload_n 1, 1) := by decide +kernel
set_option maxRecDepth 100000 in
theorem dX12_writePart_33 : decode cX12_writePart 33 = .ok (.aaload, 1) := by decide +kernel
set_option maxRecDepth 100000 in
theorem dX12_writePart_34 : decode cX12_writePart 34 = .ok (.getfield 598, 3) := by decide +kernel
set_option maxRecDepth 100000 in
theorem dX12_writePart_37 : decode cX12_writePart 37 = .ok (.aload_n 0, 1) := by decide +kernel
set_option maxRecDepth 100000 in
theorem dX12_writePart_38 : decode cX12_writePart 38 = .ok (.getfield 70, 3) := by decide +kernel
set_option maxRecDepth 100000 in
theorem dX12_writePart_41 : decode cX12_writePart 41 = .ok (.iload_n 2, 1) := by decide +kernel
set_option maxRecDepth 100000 in
theorem dX12_writePart_42 : decode cX12_writePart 42 = .ok (.iaload, 1) := by decide +kernel
set_option maxRecDepth 100000 in
theorem dX12_writePart_43 : decode cX12_writePart 43 = .ok (.invokevirtual 1411, 3) := by decide +kernel
set_option maxRecDepth 100000 in
theorem dX12_writePart_46 : decode cX12_writePart 46 = .ok (.aload_n 0, 1) := by decide +kernel
set_option maxRecDepth 100000 in
theorem dX12_writePart_47 : decode cX12_writePart 47 = .ok (.getfield 1121, 3) := by decide +kernel
set_option maxRecDepth 100000 in
theorem dX12_writePart_50 : decode cX12_writePart 50 = .ok (.ifCond .ne 9, 3) := by decide +kernel
set_option maxRecDepth 100000 in
theorem dX12_writePart_53 : decode cX12_writePart 53 = .ok (.aload_n 0, 1) := by decide +kernel
set_option maxRecDepth 100000 in
theorem dX12_writePart_54 : decode cX12_writePart 54 = .ok (.iload_n 1, 1) := by decide +kernel
set_option maxRecDepth 100000 in
theorem dX12_writePart_55 : decode cX12_writePart 55 = .ok (.iload_n 3, 1) := by decide +kernel
set_option maxRecDepth 100000 in
theorem dX12_writePart_56 : decode cX12_writePart 56 = .ok (.invokevirtual 1427, 3) := by decide +kernel
set_option maxRecDepth 100000 in
theorem dX12_writePart_59 : decode cX12_writePart 59 = .ok (.return_, 1) := by decide +kernel
set_option maxRecDepth 100000 in
def bX12_writePart_59 (G : xG) (fr lo : Nat) (h : xH) (Q : Outcome → xH → Prop) : Prop := Q (.returned none) h
set_option maxRecDepth 100000 in
theorem uX12_writePart_59 {G : xG} {fr lo : Nat} {h : xH} {Q : Outcome → xH → Prop} (hq : bX12_writePart_59 G fr lo h Q) : xP G YX12_writePart fr lo 59 [] [] h Q := by
  unfold bX12_writePart_59 at hq
  exact x_vret rfl dX12_writePart_59 hq
set_option maxRecDepth 100000 in
def bX12_writePart (G : xG) (fr lo : Nat) (x0 : Nat) (x1 : Int32) (x2 : Int32) (x3 : Int32) (h : xH) (Q : Outcome → xH → Prop) : Prop := tg h x0 = 13 ∧ 1 ≤ fr ∧ 37 ≤ lo ∧ xRv G YX12_evaluate (fr - 1) (lo - 37) [rv x0, .int x2] h (fun h4 => xext h h4 → (((fI h4 x0 3170) = 0 → tg h4 (fR h4 x0 3187) = 100 ∧ vp_in x1 (ln h4 (fR h4 x0 3187)) ∧ tg h4 (fR h4 x0 3113) = 108 ∧ vp_in x2 (ln h4 (fR h4 x0 3113)) ∧ tg h4 (fR h4 x0 3189) = 108 ∧ vp_in x1 (ln h4 (fR h4 x0 3189)) ∧ tg h4 (aR h4 (fR h4 x0 3189) (Int32.toNatClampNeg x1)) = 14 ∧ tg h4 (fR h4 x0 3102) = 100 ∧ vp_in x2 (ln h4 (fR h4 x0 3102)) ∧ 1 ≤ fr ∧ 16 ≤ lo ∧ xRv G YX12_store (fr - 1) (lo - 16) [rv x0, .int ((aI h4 (fR h4 x0 3187) (Int32.toNatClampNeg x1)) + 1), rv (aR h4 (fR h4 x0 3113) (Int32.toNatClampNeg x2)), rv (fR h4 (aR h4 (fR h4 x0 3189) (Int32.toNatClampNeg x1)) 3333), .int (aI h4 (fR h4 x0 3102) (Int32.toNatClampNeg x2))] h4 (fun h20 => xext h4 h20 → ((¬ (fI h20 x0 3170) = 0 → bX12_writePart_59 G fr lo h20 Q) ∧ ((fI h20 x0 3170) = 0 → 1 ≤ fr ∧ 18 ≤ lo ∧ xRv G YX12_putBuffer (fr - 1) (lo - 18) [rv x0, .int x1, .int x3] h20 (fun h27 => xext h20 h27 → bX12_writePart_59 G fr lo h27 Q) (fun r h2 => Q (.threw r) h2)))) (fun r h2 => Q (.threw r) h2)) ∧ (¬ (fI h4 x0 3170) = 0 → Q (.returned none) h4))) (fun r h2 => Q (.threw r) h2)
set_option maxRecDepth 100000 in
theorem uX12_writePart {G : xG} {fr lo : Nat} {x0 : Nat} {x1 : Int32} {x2 : Int32} {x3 : Int32} {h : xH} {Q : Outcome → xH → Prop} (hq : bX12_writePart G fr lo x0 x1 x2 x3 h Q) : xP G YX12_writePart fr lo 0 [(0, rv x0), (1, .int x1), (2, .int x2), (3, .int x3)] [] h Q := by
  unfold bX12_writePart at hq
  refine x_aload_n 0 dX12_writePart_0 rfl ?_
  refine x_iload_n 2 dX12_writePart_1 rfl ?_
  obtain ⟨g1, hq⟩ := hq
  obtain ⟨g2, g3, hq⟩ := hq
  refine x_callV (Yc := YX12_evaluate) (as := [.int x2]) (st := []) q4543 mvX12_evaluate g1 rfl dX12_writePart_2 (xle (xal1 (rv_cat _) (xal1 rfl xal0)) (by decide)) (xfr g2) (xlo xsw0 (by decide) g3) (xKv hq (fun h4 hq e6 => ?_) (fun _ _ q _ => q))
  replace hq := hq e6
  refine x_aload_n 0 dX12_writePart_5 rfl ?_
  have t7 : tg h4 x0 = 13 := e6.tg g1 (by decide)
  refine x_get (v := .int (fI h4 x0 3170)) fdX12_1121 dX12_writePart_6 t7 rfl ?_
  refine x_if_eq (tgt := 13) dX12_writePart_9 (by decide) (fun c8 => ?_) (fun c8 => ?_)
  · replace hq := hq.1 c8
    refine x_aload_n 0 dX12_writePart_13 rfl ?_
    refine x_aload_n 0 dX12_writePart_14 rfl ?_
    refine x_get (v := rv (fR h4 x0 3187)) fdX12_219 dX12_writePart_15 t7 rfl ?_
    refine x_iload_n 1 dX12_writePart_18 rfl ?_
    obtain ⟨g9, hq⟩ := hq
    obtain ⟨i10, hq⟩ := hq
    refine x_iald 0 (Or.inl rfl) g9 i10 dX12_writePart_19 ?_
    refine x_iconst (v := 1) dX12_writePart_20 (by decide) ?_
    refine x_iadd dX12_writePart_21 ?_
    refine x_aload_n 0 dX12_writePart_22 rfl ?_
    refine x_get (v := rv (fR h4 x0 3113)) fdX12_96 dX12_writePart_23 t7 rfl ?_
    refine x_iload_n 2 dX12_writePart_26 rfl ?_
    obtain ⟨g11, hq⟩ := hq
    obtain ⟨i12, hq⟩ := hq
    refine x_aald 8 rfl g11 (by decide) i12 dX12_writePart_27 ?_
    refine x_aload_n 0 dX12_writePart_28 rfl ?_
    refine x_get (v := rv (fR h4 x0 3189)) fdX12_225 dX12_writePart_29 t7 rfl ?_
    refine x_iload_n 1 dX12_writePart_32 rfl ?_
    obtain ⟨g13, hq⟩ := hq
    obtain ⟨i14, hq⟩ := hq
    refine x_aald 8 rfl g13 (by decide) i14 dX12_writePart_33 ?_
    obtain ⟨g15, hq⟩ := hq
    refine x_get (v := rv (fR h4 (aR h4 (fR h4 x0 3189) (Int32.toNatClampNeg x1)) 3333)) fdX12_598 dX12_writePart_34 g15 rfl ?_
    refine x_aload_n 0 dX12_writePart_37 rfl ?_
    refine x_get (v := rv (fR h4 x0 3102)) fdX12_70 dX12_writePart_38 t7 rfl ?_
    refine x_iload_n 2 dX12_writePart_41 rfl ?_
    obtain ⟨g16, hq⟩ := hq
    obtain ⟨i17, hq⟩ := hq
    refine x_iald 0 (Or.inl rfl) g16 i17 dX12_writePart_42 ?_
    obtain ⟨g18, g19, hq⟩ := hq
    refine x_callV (Yc := YX12_store) (as := [.int ((aI h4 (fR h4 x0 3187) (Int32.toNatClampNeg x1)) + 1), rv (aR h4 (fR h4 x0 3113) (Int32.toNatClampNeg x2)), rv (fR h4 (aR h4 (fR h4 x0 3189) (Int32.toNatClampNeg x1)) 3333), .int (aI h4 (fR h4 x0 3102) (Int32.toNatClampNeg x2))]) (st := []) q4713 mvX12_store t7 rfl dX12_writePart_43 (xle (xal1 (rv_cat _) (xal1 rfl (xal1 (rv_cat _) (xal1 (rv_cat _) (xal1 rfl xal0))))) (by decide)) (xfr g18) (xlo xsw0 (by decide) g19) (xKv hq (fun h20 hq e22 => ?_) (fun _ _ q _ => q))
    replace hq := hq e22
    refine x_aload_n 0 dX12_writePart_46 rfl ?_
    have t23 : tg h20 x0 = 13 := e22.tg t7 (by decide)
    refine x_get (v := .int (fI h20 x0 3170)) fdX12_1121 dX12_writePart_47 t23 rfl ?_
    refine x_if_ne (tgt := 59) dX12_writePart_50 (by decide) (fun c24 => ?_) (fun c24 => ?_)
    · replace hq := hq.1 c24
      refine xP.pick (lv' := []) [] rfl ?_
      exact uX12_writePart_59 hq
    · replace hq := hq.2 c24
      refine x_aload_n 0 dX12_writePart_53 rfl ?_
      refine x_iload_n 1 dX12_writePart_54 rfl ?_
      refine x_iload_n 3 dX12_writePart_55 rfl ?_
      obtain ⟨g25, g26, hq⟩ := hq
      refine x_callV (Yc := YX12_putBuffer) (as := [.int x1, .int x3]) (st := []) q4799 mvX12_putBuffer t23 rfl dX12_writePart_56 (xle (xal1 (rv_cat _) (xal1 rfl (xal1 rfl xal0))) (by decide)) (xfr g25) (xlo xsw0 (by decide) g26) (xKv hq (fun h27 hq e29 => ?_) (fun _ _ q _ => q))
      replace hq := hq e29
      refine xP.pick (lv' := []) [] rfl ?_
      exact uX12_writePart_59 hq
  · replace hq := hq.2 c8
    exact x_vret rfl dX12_writePart_12 hq
theorem rX12_writePart {G : xG} {fr lo : Nat} {x0 : Nat} {x1 : Int32} {x2 : Int32} {x3 : Int32} {h : xH} {Q : Outcome → xH → Prop} (hq : bX12_writePart G fr lo x0 x1 x2 x3 h Q) : xR G YX12_writePart fr lo [rv x0, .int x1, .int x2, .int x3] h Q := by
  show xP _ _ _ _ _ (lv_args 0 _) _ _ _
  rw [show lv_args 0 [rv x0, .int x1, .int x2, .int x3] = [(0, rv x0), (1, .int x1), (2, .int x2), (3, .int x3)] from (xla1 (rv_cat _) (xla1 rfl (xla1 rfl (xla1 rfl xla0))))]
  exact uX12_writePart hq
set_option maxRecDepth 100000 in
theorem dX12_putBuffer_0 : decode cX12_putBuffer 0 = .ok (.aload_n 0, 1) := by decide +kernel
set_option maxRecDepth 100000 in
theorem dX12_putBuffer_1 : decode cX12_putBuffer 1 = .ok (.getfield 225, 3) := by decide +kernel
set_option maxRecDepth 100000 in
theorem dX12_putBuffer_4 : decode cX12_putBuffer 4 = .ok (.iload_n 1, 1) := by decide +kernel
set_option maxRecDepth 100000 in
theorem dX12_putBuffer_5 : decode cX12_putBuffer 5 = .ok (.aaload, 1) := by decide +kernel
set_option maxRecDepth 100000 in
theorem dX12_putBuffer_6 : decode cX12_putBuffer 6 = .ok (.astore_n 3, 1) := by decide +kernel
set_option maxRecDepth 100000 in
theorem dX12_putBuffer_7 : decode cX12_putBuffer 7 = .ok (.aload_n 0, 1) := by decide +kernel
set_option maxRecDepth 100000 in
theorem dX12_putBuffer_8 : decode cX12_putBuffer 8 = .ok (.getfield 219, 3) := by decide +kernel
set_option maxRecDepth 100000 in
theorem dX12_putBuffer_11 : decode cX12_putBuffer 11 = .ok (.iload_n 1, 1) := by decide +kernel
set_option maxRecDepth 100000 in
theorem dX12_putBuffer_12 : decode cX12_putBuffer 12 = .ok (.iaload, 1) := by decide +kernel
set_option maxRecDepth 100000 in
theorem dX12_putBuffer_13 : decode cX12_putBuffer 13 = .ok (.iconst 1, 1) := by decide +kernel
set_option maxRecDepth 100000 in
theorem dX12_putBuffer_14 : decode cX12_putBuffer 14 = .ok (.iadd, 1) := by decide +kernel
set_option maxRecDepth 100000 in
theorem dX12_putBuffer_15 : decode cX12_putBuffer 15 = .ok (.istore 4, 2) := by decide +kernel
set_option maxRecDepth 100000 in
theorem dX12_putBuffer_17 : decode cX12_putBuffer 17 = .ok (.aload_n 0, 1) := by decide +kernel
set_option maxRecDepth 100000 in
theorem dX12_putBuffer_18 : decode cX12_putBuffer 18 = .ok (.getfield 204, 3) := by decide +kernel
set_option maxRecDepth 100000 in
theorem dX12_putBuffer_21 : decode cX12_putBuffer 21 = .ok (.iload_n 1, 1) := by decide +kernel
set_option maxRecDepth 100000 in
theorem dX12_putBuffer_22 : decode cX12_putBuffer 22 = .ok (.iaload, 1) := by decide +kernel
set_option maxRecDepth 100000 in
theorem dX12_putBuffer_23 : decode cX12_putBuffer 23 = .ok (.iconst 2, 1) := by decide +kernel
set_option maxRecDepth 100000 in
theorem dX12_putBuffer_24 : decode cX12_putBuffer 24 = .ok (.if_icmp .eq 13, 3) := by decide +kernel
set_option maxRecDepth 100000 in
theorem dX12_putBuffer_27 : decode cX12_putBuffer 27 = .ok (.aload_n 0, 1) := by decide +kernel
set_option maxRecDepth 100000 in
theorem dX12_putBuffer_28 : decode cX12_putBuffer 28 = .ok (.bipush 10, 2) := by decide +kernel
set_option maxRecDepth 100000 in
theorem dX12_putBuffer_30 : decode cX12_putBuffer 30 = .ok (.iload_n 2, 1) := by decide +kernel
set_option maxRecDepth 100000 in
theorem dX12_putBuffer_31 : decode cX12_putBuffer 31 = .ok (.invokevirtual 1142, 3) := by decide +kernel
set_option maxRecDepth 100000 in
theorem dX12_putBuffer_34 : decode cX12_putBuffer 34 = .ok (.goto 51, 3) := by decide +kernel
set_option maxRecDepth 100000 in
theorem dX12_putBuffer_37 : decode cX12_putBuffer 37 = .ok (.aload_n 3, 1) := by decide +kernel
set_option maxRecDepth 100000 in
theorem dX12_putBuffer_38 : decode cX12_putBuffer 38 = .ok (.getfield 598, 3) := by decide +kernel
set_option maxRecDepth 100000 in
theorem dX12_putBuffer_41 : decode cX12_putBuffer 41 = .ok (.invokevirtual 1139, 3) := by decide +kernel
set_option maxRecDepth 100000 in
theorem dX12_putBuffer_44 : decode cX12_putBuffer 44 = .ok (.ifCond .ne 22, 3) := by decide +kernel
set_option maxRecDepth 100000 in
theorem dX12_putBuffer_47 : decode cX12_putBuffer 47 = .ok (.aload_n 0, 1) := by decide +kernel
set_option maxRecDepth 100000 in
theorem dX12_putBuffer_48 : decode cX12_putBuffer 48 = .ok (.getfield 169, 3) := by decide +kernel
set_option maxRecDepth 100000 in
theorem dX12_putBuffer_51 : decode cX12_putBuffer 51 = .ok (.iload 4, 2) := by decide +kernel
set_option maxRecDepth 100000 in
theorem dX12_putBuffer_53 : decode cX12_putBuffer 53 = .ok (.baload, 1) := by decide +kernel
set_option maxRecDepth 100000 in
theorem dX12_putBuffer_54 : decode cX12_putBuffer 54 = .ok (.ifCond .ne 12, 3) := by decide +kernel
set_option maxRecDepth 100000 in
theorem dX12_putBuffer_57 : decode cX12_putBuffer 57 = .ok (.aload_n 0, 1) := by decide +kernel
set_option maxRecDepth 100000 in
theorem dX12_putBuffer_58 : decode cX12_putBuffer 58 = .ok (.iconst 5, 1) := by decide +kernel
set_option maxRecDepth 100000 in
theorem dX12_putBuffer_59 : decode cX12_putBuffer 59 = .ok (.iload_n 2, 1) := by decide +kernel
set_option maxRecDepth 100000 in
theorem dX12_putBuffer_60 : decode cX12_putBuffer 60 = .ok (.invokevirtual 1142, 3) := by decide +kernel
set_option maxRecDepth 100000 in
theorem dX12_putBuffer_63 : decode cX12_putBuffer 63 = .ok (.goto 22, 3) := by decide +kernel
set_option maxRecDepth 100000 in
theorem dX12_putBuffer_66 : decode cX12_putBuffer 66 = .ok (.aload_n 0, 1) := by decide +kernel
set_option maxRecDepth 100000 in
theorem dX12_putBuffer_67 : decode cX12_putBuffer 67 = .ok (.iload_n 1, 1) := by decide +kernel
set_option maxRecDepth 100000 in
theorem dX12_putBuffer_68 : decode cX12_putBuffer 68 = .ok (.aload_n 3, 1) := by decide +kernel
set_option maxRecDepth 100000 in
theorem dX12_putBuffer_69 : decode cX12_putBuffer 69 = .ok (.invokestatic 1194, 3) := by decide +kernel
set_option maxRecDepth 100000 in
theorem dX12_putBuffer_72 : decode cX12_putBuffer 72 = .ok (.invokevirtual 1210, 3) := by decide +kernel
set_option maxRecDepth 100000 in
theorem dX12_putBuffer_75 : decode cX12_putBuffer 75 = .ok (.ifCond .ne 10, 3) := by decide +kernel
set_option maxRecDepth 100000 in
theorem dX12_putBuffer_78 : decode cX12_putBuffer 78 = .ok (.aload_n 0, 1) := by decide +kernel
set_option maxRecDepth 100000 in
theorem dX12_putBuffer_79 : decode cX12_putBuffer 79 = .ok (.bipush 14, 2) := by decide +kernel
set_option maxRecDepth 100000 in
theorem dX12_putBuffer_81 : decode cX12_putBuffer 81 = .ok (.iload_n 2, 1) := by decide +kernel
set_option maxRecDepth 100000 in
theorem dX12_putBuffer_82 : decode cX12_putBuffer 82 = .ok (.invokevirtual 1142, 3) := by decide +kernel
set_option maxRecDepth 100000 in
theorem dX12_putBuffer_85 : decode cX12_putBuffer 85 = .ok (.aload_n 0, 1) := by decide +kernel
set_option maxRecDepth 100000 in
theorem dX12_putBuffer_86 : decode cX12_putBuffer 86 = .ok (.getfield 1121, 3) := by decide +kernel
set_option maxRecDepth 100000 in
theorem dX12_putBuffer_89 : decode cX12_putBuffer 89 = .ok (.ifCond .eq 4, 3) := by decide +kernel
set_option maxRecDepth 100000 in
theorem dX12_putBuffer_92 : decode cX12_putBuffer 92 = .ok (.return_, 1) := by decide +kernel
set_option maxRecDepth 100000 in
theorem dX12_putBuffer_93 : decode cX12_putBuffer 93 = .ok (.aload_n 3, 1) := by decide +kernel
set_option maxRecDepth 100000 in
theorem dX12_putBuffer_94 : decode cX12_putBuffer 94 = .ok (.getfield 598, 3) := by decide +kernel
set_option maxRecDepth 100000 in
theorem dX12_putBuffer_97 : decode cX12_putBuffer 97 = .ok (.getfield 603, 3) := by decide +kernel
set_option maxRecDepth 100000 in
theorem dX12_putBuffer_100 : decode cX12_putBuffer 100 = .ok (.lconst 0, 1) := by decide +kernel
set_option maxRecDepth 100000 in
theorem dX12_putBuffer_101 : decode cX12_putBuffer 101 = .ok (.lcmp, 1) := by decide +kernel
set_option maxRecDepth 100000 in
theorem dX12_putBuffer_102 : decode cX12_putBuffer 102 = .ok (.ifCond .ne 14, 3) := by decide +kernel
set_option maxRecDepth 100000 in
theorem dX12_putBuffer_105 : decode cX12_putBuffer 105 = .ok (.aload_n 0, 1) := by decide +kernel
set_option maxRecDepth 100000 in
theorem dX12_putBuffer_106 : decode cX12_putBuffer 106 = .ok (.getfield 238, 3) := by decide +kernel
set_option maxRecDepth 100000 in
theorem dX12_putBuffer_109 : decode cX12_putBuffer 109 = .ok (.aload_n 0, 1) := by decide +kernel
set_option maxRecDepth 100000 in
theorem dX12_putBuffer_110 : decode cX12_putBuffer 110 = .ok (.iload_n 1, 1) := by decide +kernel
set_option maxRecDepth 100000 in
theorem dX12_putBuffer_111 : decode cX12_putBuffer 111 = .ok (.invokevirtual 1189, 3) := by decide +kernel
set_option maxRecDepth 100000 in
theorem dX12_putBuffer_114 : decode cX12_putBuffer 114 = .ok (.iconst 0, 1) := by decide +kernel
set_option maxRecDepth 100000 in
theorem dX12_putBuffer_115 : decode cX12_putBuffer 115 = .ok (.bastore, 1) := by decide +kernel
set_option maxRecDepth 100000 in
theorem dX12_putBuffer_116 : decode cX12_putBuffer 116 = .ok (.iconst 0, 1) := by decide +kernel
set_option maxRecDepth 100000 in
theorem dX12_putBuffer_117 : decode cX12_putBuffer 117 = .ok (.istore 5, 2) := by decide +kernel
set_option maxRecDepth 100000 in
theorem dX12_putBuffer_119 : decode cX12_putBuffer 119 = .ok (.iload 5, 2) := by decide +kernel
set_option maxRecDepth 100000 in
theorem dX12_putBuffer_121 : decode cX12_putBuffer 121 = .ok (.i2l, 1) := by decide +kernel
set_option maxRecDepth 100000 in
theorem dX12_putBuffer_122 : decode cX12_putBuffer 122 = .ok (.aload_n 3, 1) := by decide +kernel
set_option maxRecDepth 100000 in
theorem dX12_putBuffer_123 : decode cX12_putBuffer 123 = .ok (.getfield 598, 3) := by decide +kernel
set_option maxRecDepth 100000 in
theorem dX12_putBuffer_126 : decode cX12_putBuffer 126 = .ok (.getfield 603, 3) := by decide +kernel
set_option maxRecDepth 100000 in
theorem dX12_putBuffer_129 : decode cX12_putBuffer 129 = .ok (.lcmp, 1) := by decide +kernel
set_option maxRecDepth 100000 in
theorem dX12_putBuffer_130 : decode cX12_putBuffer 130 = .ok (.ifCond .ge 84, 3) := by decide +kernel
set_option maxRecDepth 100000 in
theorem dX12_putBuffer_133 : decode cX12_putBuffer 133 = .ok (.aload_n 0, 1) := by decide +kernel
set_option maxRecDepth 100000 in
theorem dX12_putBuffer_134 : decode cX12_putBuffer 134 = .ok (.iload_n 1, 1) := by decide +kernel
set_option maxRecDepth 100000 in
theorem dX12_putBuffer_135 : decode cX12_putBuffer 135 = .ok (.invokevirtual 1189, 3) := by decide +kernel
set_option maxRecDepth 100000 in
theorem dX12_putBuffer_138 : decode cX12_putBuffer 138 = .ok (.istore 6, 2) := by decide +kernel
set_option maxRecDepth 100000 in
theorem dX12_putBuffer_140 : decode cX12_putBuffer 140 = .ok (.aload_n 0, 1) := by decide +kernel
set_option maxRecDepth 100000 in
theorem dX12_putBuffer_141 : decode cX12_putBuffer 141 = .ok (.getfield 229, 3) := by decide +kernel
set_option maxRecDepth 100000 in
theorem dX12_putBuffer_144 : decode cX12_putBuffer 144 = .ok (.iload 6, 2) := by decide +kernel
set_option maxRecDepth 100000 in
theorem dX12_putBuffer_146 : decode cX12_putBuffer 146 = .ok (.aload_n 0, 1) := by decide +kernel
set_option maxRecDepth 100000 in
theorem dX12_putBuffer_147 : decode cX12_putBuffer 147 = .ok (.getfield 159, 3) := by decide +kernel
set_option maxRecDepth 100000 in
theorem dX12_putBuffer_150 : decode cX12_putBuffer 150 = .ok (.iload 4, 2) := by decide +kernel
set_option maxRecDepth 100000 in
theorem dX12_putBuffer_152 : decode cX12_putBuffer 152 = .ok (.iload 5, 2) := by decide +kernel
set_option maxRecDepth 100000 in
theorem dX12_putBuffer_154 : decode cX12_putBuffer 154 = .ok (.iadd, 1) := by decide +kernel
set_option maxRecDepth 100000 in
theorem dX12_putBuffer_155 : decode cX12_putBuffer 155 = .ok (.laload, 1) := by decide +kernel
set_option maxRecDepth 100000 in
theorem dX12_putBuffer_156 : decode cX12_putBuffer 156 = .ok (.lastore, 1) := by decide +kernel
set_option maxRecDepth 100000 in
theorem dX12_putBuffer_157 : decode cX12_putBuffer 157 = .ok (.aload_n 0, 1) := by decide +kernel
set_option maxRecDepth 100000 in
theorem dX12_putBuffer_158 : decode cX12_putBuffer 158 = .ok (.getfield 232, 3) := by decide +kernel
set_option maxRecDepth 100000 in
theorem dX12_putBuffer_161 : decode cX12_putBuffer 161 = .ok (.iload 6, 2) := by decide +kernel
set_option maxRecDepth 100000 in
theorem dX12_putBuffer_163 : decode cX12_putBuffer 163 = .ok (.aload_n 0, 1) := by decide +kernel
set_option maxRecDepth 100000 in
theorem dX12_putBuffer_164 : decode cX12_putBuffer 164 = .ok (.getfield 163, 3) := by decide +kernel
set_option maxRecDepth 100000 in
theorem dX12_putBuffer_167 : decode cX12_putBuffer 167 = .ok (.iload 4, 2) := by decide +kernel
set_option maxRecDepth 100000 in
theorem dX12_putBuffer_169 : decode cX12_putBuffer 169 = .ok (.iload 5, 2) := by decide +kernel
set_option maxRecDepth 100000 in
theorem dX12_putBuffer_171 : decode cX12_putBuffer 171 = .ok (.iadd, 1) := by decide +kernel
set_option maxRecDepth 100000 in
theorem dX12_putBuffer_172 : decode cX12_putBuffer 172 = .ok (.laload, 1) := by decide +kernel
set_option maxRecDepth 100000 in
theorem dX12_putBuffer_173 : decode cX12_putBuffer 173 = .ok (.lastore, 1) := by decide +kernel
set_option maxRecDepth 100000 in
theorem dX12_putBuffer_174 : decode cX12_putBuffer 174 = .ok (.aload_n 0, 1) := by decide +kernel
set_option maxRecDepth 100000 in
theorem dX12_putBuffer_175 : decode cX12_putBuffer 175 = .ok (.getfield 235, 3) := by decide +kernel
set_option maxRecDepth 100000 in
theorem dX12_putBuffer_178 : decode cX12_putBuffer 178 = .ok (.iload 6, 2) := by decide +kernel
set_option maxRecDepth 100000 in
theorem dX12_putBuffer_180 : decode cX12_putBuffer 180 = .ok (.aload_n 0, 1) := by decide +kernel
set_option maxRecDepth 100000 in
theorem dX12_putBuffer_181 : decode cX12_putBuffer 181 = .ok (.getfield 166, 3) := by decide +kernel
set_option maxRecDepth 100000 in
theorem dX12_putBuffer_184 : decode cX12_putBuffer 184 = .ok (.iload 4, 2) := by decide +kernel
set_option maxRecDepth 100000 in
theorem dX12_putBuffer_186 : decode cX12_putBuffer 186 = .ok (.iload 5, 2) := by decide +kernel
set_option maxRecDepth 100000 in
theorem dX12_putBuffer_188 : decode cX12_putBuffer 188 = .ok (.iadd, 1) := by decide +kernel
set_option maxRecDepth 100000 in
theorem dX12_putBuffer_189 : decode cX12_putBuffer 189 = .ok (.daload, 1) := by decide +kernel
set_option maxRecDepth 100000 in
theorem dX12_putBuffer_190 : decode cX12_putBuffer 190 = .ok (.dastore, 1) := by decide +kernel
set_option maxRecDepth 100000 in
theorem dX12_putBuffer_191 : decode cX12_putBuffer 191 = .ok (.aload_n 0, 1) := by decide +kernel
set_option maxRecDepth 100000 in
theorem dX12_putBuffer_192 : decode cX12_putBuffer 192 = .ok (.getfield 238, 3) := by decide +kernel
set_option maxRecDepth 100000 in
theorem dX12_putBuffer_195 : decode cX12_putBuffer 195 = .ok (.iload 6, 2) := by decide +kernel
set_option maxRecDepth 100000 in
theorem dX12_putBuffer_197 : decode cX12_putBuffer 197 = .ok (.aload_n 0, 1) := by decide +kernel
set_option maxRecDepth 100000 in
theorem dX12_putBuffer_198 : decode cX12_putBuffer 198 = .ok (.getfield 169, 3) := by decide +kernel
set_option maxRecDepth 100000 in
theorem dX12_putBuffer_201 : decode cX12_putBuffer 201 = .ok (.iload 4, 2) := by decide +kernel
set_option maxRecDepth 100000 in
theorem dX12_putBuffer_203 : decode cX12_putBuffer 203 = .ok (.iload 5, 2) := by decide +kernel
set_option maxRecDepth 100000 in
theorem dX12_putBuffer_205 : decode cX12_putBuffer 205 = .ok (.iadd, 1) := by decide +kernel
set_option maxRecDepth 100000 in
theorem dX12_putBuffer_206 : decode cX12_putBuffer 206 = .ok (.baload, 1) := by decide +kernel
set_option maxRecDepth 100000 in
theorem dX12_putBuffer_207 : decode cX12_putBuffer 207 = .ok (.bastore, 1) := by decide +kernel
set_option maxRecDepth 100000 in
theorem dX12_putBuffer_208 : decode cX12_putBuffer 208 = .ok (.iinc 5 1, 3) := by decide +kernel
set_option maxRecDepth 100000 in
theorem dX12_putBuffer_211 : decode cX12_putBuffer 211 = .ok (.goto (-92), 3) := by decide +kernel
set_option maxRecDepth 100000 in
theorem dX12_putBuffer_214 : decode cX12_putBuffer 214 = .ok (.aload_n 0, 1) := by decide +kernel
set_option maxRecDepth 100000 in
theorem dX12_putBuffer_215 : decode cX12_putBuffer 215 = .ok (.iload_n 1, 1) := by decide +kernel
set_option maxRecDepth 100000 in
theorem dX12_putBuffer_216 : decode cX12_putBuffer 216 = .ok (.invokevirtual 1201, 3) := by decide +kernel
set_option maxRecDepth 100000 in
theorem dX12_putBuffer_219 : decode cX12_putBuffer 219 = .ok (.return_, 1) := by decide +kernel
def lX12_putBuffer_119 (G : xG) (fr lo : Nat) (x0 : Nat) (x1 : Int32) (x3 : Nat) (x4 : Int32) (x5 : Int32) (h : xH) (Q : Outcome → xH → Prop) : Prop := xP G YX12_putBuffer fr lo 119 [(0, rv x0), (1, .int x1), (3, rv x3), (4, .int x4), (5, .int x5)] [] h Q
set_option maxRecDepth 100000 in
def bX12_putBuffer_119 (G : xG) (fr lo : Nat) (x0 : Nat) (x1 : Int32) (x3 : Nat) (x4 : Int32) (x5 : Int32) (h : xH) (Q : Outcome → xH → Prop) : Prop := tg h x3 = 14 ∧ tg h (fR h x3 3333) = 14 ∧ ((0 ≤ (lg_cmp (Int32.toInt64 x5) (fJ h (fR h x3 3333) 3334)) → tg h x0 = 13 ∧ 1 ≤ fr ∧ 17 ≤ lo ∧ xRv G YX12_bringBuffer (fr - 1) (lo - 17) [rv x0, .int x1] h (fun h7 => xext h h7 → Q (.returned none) h7) (fun r h2 => Q (.threw r) h2)) ∧ (¬ 0 ≤ (lg_cmp (Int32.toInt64 x5) (fJ h (fR h x3 3333) 3334)) → tg h x0 = 13 ∧ 1 ≤ fr ∧ 14 ≤ lo ∧ xRi G YX12_link (fr - 1) (lo - 14) [rv x0, .int x1] h (fun x14 h13 => xext h h13 → tg h13 (fR h13 x0 3147) = 101 ∧ vp_in (x4 + x5) (ln h13 (fR h13 x0 3147)) ∧ tg h13 (fR h13 x0 3192) = 101 ∧ vp_in x14 (ln h13 (fR h13 x0 3192)) ∧ (∀ h21 : xH, h21 = tJ h13 (fR h13 x0 3192) (Int32.toNatClampNeg x14) (aJ h13 (fR h13 x0 3147) (Int32.toNatClampNeg (x4 + x5))) → tg h21 (fR h21 x0 3148) = 101 ∧ vp_in (x4 + x5) (ln h21 (fR h21 x0 3148)) ∧ tg h21 (fR h21 x0 3193) = 101 ∧ vp_in x14 (ln h21 (fR h21 x0 3193)) ∧ (∀ h28 : xH, h28 = tJ h21 (fR h21 x0 3193) (Int32.toNatClampNeg x14) (aJ h21 (fR h21 x0 3148) (Int32.toNatClampNeg (x4 + x5))) → tg h28 (fR h28 x0 3149) = 102 ∧ vp_in (x4 + x5) (ln h28 (fR h28 x0 3149)) ∧ tg h28 (fR h28 x0 3194) = 102 ∧ vp_in x14 (ln h28 (fR h28 x0 3194)) ∧ (∀ h35 : xH, h35 = tD h28 (fR h28 x0 3194) (Int32.toNatClampNeg x14) (aD h28 (fR h28 x0 3149) (Int32.toNatClampNeg (x4 + x5))) → tg h35 (fR h35 x0 3150) = 104 ∧ vp_in (x4 + x5) (ln h35 (fR h35 x0 3150)) ∧ tg h35 (fR h35 x0 3195) = 104 ∧ vp_in x14 (ln h35 (fR h35 x0 3195)) ∧ (∀ h42 : xH, h42 = tI h35 (fR h35 x0 3195) (Int32.toNatClampNeg x14) (vp_nar .boolean (aI h35 (fR h35 x0 3150) (Int32.toNatClampNeg (x4 + x5)))) → lX12_putBuffer_119 G fr lo x0 x1 x3 x4 (x5 + 1) h42 Q))))) (fun r h2 => Q (.threw r) h2)))
set_option maxRecDepth 100000 in
theorem uX12_putBuffer_119 {G : xG} {fr lo : Nat} {x0 : Nat} {x1 : Int32} {x3 : Nat} {x4 : Int32} {x5 : Int32} {h : xH} {Q : Outcome → xH → Prop} (hq : bX12_putBuffer_119 G fr lo x0 x1 x3 x4 x5 h Q) : xP G YX12_putBuffer fr lo 119 [(0, rv x0), (1, .int x1), (3, rv x3), (4, .int x4), (5, .int x5)] [] h Q := by
  unfold bX12_putBuffer_119 at hq
  refine x_iload 4 dX12_putBuffer_119 rfl ?_
  refine x_i2l dX12_putBuffer_121 ?_
  refine x_aload_n 2 dX12_putBuffer_122 rfl ?_
  obtain ⟨g1, hq⟩ := hq
  refine x_get (v := rv (fR h x3 3333)) fdX12_598 dX12_putBuffer_123 g1 rfl ?_
  obtain ⟨g2, hq⟩ := hq
  refine x_get (v := .long (fJ h (fR h x3 3333) 3334)) fdX12_603 dX12_putBuffer_126 g2 rfl ?_
  refine x_lcmp dX12_putBuffer_129 ?_
  refine x_if_ge (tgt := 214) dX12_putBuffer_130 (by decide) (fun c3 => ?_) (fun c3 => ?_)
  · replace hq := hq.1 c3
    refine x_aload_n 0 dX12_putBuffer_214 rfl ?_
    refine x_iload_n 1 dX12_putBuffer_215 rfl ?_
    obtain ⟨g4, hq⟩ := hq
    obtain ⟨g5, g6, hq⟩ := hq
    refine x_callV (Yc := YX12_bringBuffer) (as := [.int x1]) (st := []) q4526 mvX12_bringBuffer g4 rfl dX12_putBuffer_216 (xle (xal1 (rv_cat _) (xal1 rfl xal0)) (by decide)) (xfr g5) (xlo xsw0 (by decide) g6) (xKv hq (fun h7 hq e9 => ?_) (fun _ _ q _ => q))
    replace hq := hq e9
    exact x_vret rfl dX12_putBuffer_219 hq
  · replace hq := hq.2 c3
    refine x_aload_n 0 dX12_putBuffer_133 rfl ?_
    refine x_iload_n 1 dX12_putBuffer_134 rfl ?_
    obtain ⟨g10, hq⟩ := hq
    obtain ⟨g11, g12, hq⟩ := hq
    refine x_callV (Yc := YX12_link) (as := [.int x1]) (st := []) q4518 mvX12_link g10 rfl dX12_putBuffer_135 (xle (xal1 (rv_cat _) (xal1 rfl xal0)) (by decide)) (xfr g11) (xlo xsw0 (by decide) g12) (xKi hq (fun x14 h13 hq e15 => ?_) (fun _ _ q _ => q))
    replace hq := hq e15
    refine x_istore (lv' := [(6, .int x14), (0, rv x0), (1, .int x1), (3, rv x3), (4, .int x4), (5, .int x5)]) dX12_putBuffer_138 (by decide) rfl ?_
    refine x_aload_n 1 dX12_putBuffer_140 rfl ?_
    have t16 : tg h13 x0 = 13 := e15.tg g10 (by decide)
    refine x_get (v := rv (fR h13 x0 3192)) fdX12_229 dX12_putBuffer_141 t16 rfl ?_
    refine x_iload 0 dX12_putBuffer_144 rfl ?_
    refine x_aload_n 1 dX12_putBuffer_146 rfl ?_
    refine x_get (v := rv (fR h13 x0 3147)) fdX12_159 dX12_putBuffer_147 t16 rfl ?_
    refine x_iload 4 dX12_putBuffer_150 rfl ?_
    refine x_iload 5 dX12_putBuffer_152 rfl ?_
    refine x_iadd dX12_putBuffer_154 ?_
    obtain ⟨g17, hq⟩ := hq
    obtain ⟨i18, hq⟩ := hq
    refine x_lald g17 i18 dX12_putBuffer_155 ?_
    obtain ⟨g19, hq⟩ := hq
    obtain ⟨i20, hq⟩ := hq
    obtain ⟨h21, e22⟩ : ∃ y, y = tJ h13 (fR h13 x0 3192) (Int32.toNatClampNeg x14) (aJ h13 (fR h13 x0 3147) (Int32.toNatClampNeg (x4 + x5))) := ⟨_, rfl⟩
    replace hq := hq h21 e22
    refine x_last' g19 i20 dX12_putBuffer_156 e22 ?_
    refine x_aload_n 1 dX12_putBuffer_157 rfl ?_
    have t23 : tg h21 x0 = 13 := by rw [e22]; exact t16
    refine x_get (v := rv (fR h21 x0 3193)) fdX12_232 dX12_putBuffer_158 t23 rfl ?_
    refine x_iload 0 dX12_putBuffer_161 rfl ?_
    refine x_aload_n 1 dX12_putBuffer_163 rfl ?_
    refine x_get (v := rv (fR h21 x0 3148)) fdX12_163 dX12_putBuffer_164 t23 rfl ?_
    refine x_iload 4 dX12_putBuffer_167 rfl ?_
    refine x_iload 5 dX12_putBuffer_169 rfl ?_
    refine x_iadd dX12_putBuffer_171 ?_
    obtain ⟨g24, hq⟩ := hq
    obtain ⟨i25, hq⟩ := hq
    refine x_lald g24 i25 dX12_putBuffer_172 ?_
    obtain ⟨g26, hq⟩ := hq
    obtain ⟨i27, hq⟩ := hq
    obtain ⟨h28, e29⟩ : ∃ y, y = tJ h21 (fR h21 x0 3193) (Int32.toNatClampNeg x14) (aJ h21 (fR h21 x0 3148) (Int32.toNatClampNeg (x4 + x5))) := ⟨_, rfl⟩
    replace hq := hq h28 e29
    refine x_last' g26 i27 dX12_putBuffer_173 e29 ?_
    refine x_aload_n 1 dX12_putBuffer_174 rfl ?_
    have t30 : tg h28 x0 = 13 := by rw [e29]; exact t23
    refine x_get (v := rv (fR h28 x0 3194)) fdX12_235 dX12_putBuffer_175 t30 rfl ?_
    refine x_iload 0 dX12_putBuffer_178 rfl ?_
    refine x_aload_n 1 dX12_putBuffer_180 rfl ?_
    refine x_get (v := rv (fR h28 x0 3149)) fdX12_166 dX12_putBuffer_181 t30 rfl ?_
    refine x_iload 4 dX12_putBuffer_184 rfl ?_
    refine x_iload 5 dX12_putBuffer_186 rfl ?_
    refine x_iadd dX12_putBuffer_188 ?_
    obtain ⟨g31, hq⟩ := hq
    obtain ⟨i32, hq⟩ := hq
    refine x_dald g31 i32 dX12_putBuffer_189 ?_
    obtain ⟨g33, hq⟩ := hq
    obtain ⟨i34, hq⟩ := hq
    obtain ⟨h35, e36⟩ : ∃ y, y = tD h28 (fR h28 x0 3194) (Int32.toNatClampNeg x14) (aD h28 (fR h28 x0 3149) (Int32.toNatClampNeg (x4 + x5))) := ⟨_, rfl⟩
    replace hq := hq h35 e36
    refine x_dast' g33 i34 dX12_putBuffer_190 e36 ?_
    refine x_aload_n 1 dX12_putBuffer_191 rfl ?_
    have t37 : tg h35 x0 = 13 := by rw [e36]; exact t30
    refine x_get (v := rv (fR h35 x0 3195)) fdX12_238 dX12_putBuffer_192 t37 rfl ?_
    refine x_iload 0 dX12_putBuffer_195 rfl ?_
    refine x_aload_n 1 dX12_putBuffer_197 rfl ?_
    refine x_get (v := rv (fR h35 x0 3150)) fdX12_169 dX12_putBuffer_198 t37 rfl ?_
    refine x_iload 4 dX12_putBuffer_201 rfl ?_
    refine x_iload 5 dX12_putBuffer_203 rfl ?_
    refine x_iadd dX12_putBuffer_205 ?_
    obtain ⟨g38, hq⟩ := hq
    obtain ⟨i39, hq⟩ := hq
    refine x_zald g38 i39 dX12_putBuffer_206 ?_
    obtain ⟨g40, hq⟩ := hq
    obtain ⟨i41, hq⟩ := hq
    obtain ⟨h42, e43⟩ : ∃ y, y = tI h35 (fR h35 x0 3195) (Int32.toNatClampNeg x14) (vp_nar .boolean (aI h35 (fR h35 x0 3150) (Int32.toNatClampNeg (x4 + x5)))) := ⟨_, rfl⟩
    replace hq := hq h42 e43
    refine x_zast' g40 i41 dX12_putBuffer_207 e43 ?_
    refine x_iinc (lv' := [(5, .int (x5 + 1)), (6, .int x14), (0, rv x0), (1, .int x1), (3, rv x3), (4, .int x4)]) 5 dX12_putBuffer_208 rfl (by decide) rfl ?_
    refine x_goto (tgt := 119) dX12_putBuffer_211 (by decide) ?_
    refine xP.pick (lv' := [(0, rv x0), (1, .int x1), (3, rv x3), (4, .int x4), (5, .int (x5 + 1))]) [2, 3, 4, 5, 0] rfl ?_
    exact hq
set_option maxRecDepth 100000 in
def bX12_putBuffer_116 (G : xG) (fr lo : Nat) (x0 : Nat) (x1 : Int32) (x3 : Nat) (x4 : Int32) (h : xH) (Q : Outcome → xH → Prop) : Prop := lX12_putBuffer_119 G fr lo x0 x1 x3 x4 0 h Q
set_option maxRecDepth 100000 in
theorem uX12_putBuffer_116 {G : xG} {fr lo : Nat} {x0 : Nat} {x1 : Int32} {x3 : Nat} {x4 : Int32} {h : xH} {Q : Outcome → xH → Prop} (hq : bX12_putBuffer_116 G fr lo x0 x1 x3 x4 h Q) : xP G YX12_putBuffer fr lo 116 [(0, rv x0), (1, .int x1), (3, rv x3), (4, .int x4)] [] h Q := by
  unfold bX12_putBuffer_116 at hq
  refine x_iconst (v := 0) dX12_putBuffer_116 (by decide) ?_
  refine x_istore (lv' := [(5, .int 0), (0, rv x0), (1, .int x1), (3, rv x3), (4, .int x4)]) dX12_putBuffer_117 (by decide) rfl ?_
  refine xP.pick (lv' := [(0, rv x0), (1, .int x1), (3, rv x3), (4, .int x4), (5, .int 0)]) [1, 2, 3, 4, 0] rfl ?_
  exact hq
set_option maxRecDepth 100000 in
def bX12_putBuffer_85 (G : xG) (fr lo : Nat) (x0 : Nat) (x1 : Int32) (x3 : Nat) (x4 : Int32) (h : xH) (Q : Outcome → xH → Prop) : Prop := tg h x0 = 13 ∧ (((fI h x0 3170) = 0 → tg h x3 = 14 ∧ tg h (fR h x3 3333) = 14 ∧ ((¬ (lg_cmp (fJ h (fR h x3 3333) 3334) 0) = 0 → bX12_putBuffer_116 G fr lo x0 x1 x3 x4 h Q) ∧ ((lg_cmp (fJ h (fR h x3 3333) 3334) 0) = 0 → 1 ≤ fr ∧ 15 ≤ lo ∧ xRi G YX12_link (fr - 1) (lo - 15) [rv x0, .int x1] h (fun x9 h8 => xext h h8 → tg h8 (fR h x0 3195) = 104 ∧ vp_in x9 (ln h8 (fR h x0 3195)) ∧ (∀ h13 : xH, h13 = tI h8 (fR h x0 3195) (Int32.toNatClampNeg x9) (vp_nar .boolean 0) → bX12_putBuffer_116 G fr lo x0 x1 x3 x4 h13 Q)) (fun r h2 => Q (.threw r) h2)))) ∧ (¬ (fI h x0 3170) = 0 → Q (.returned none) h))
set_option maxRecDepth 100000 in
theorem uX12_putBuffer_85 {G : xG} {fr lo : Nat} {x0 : Nat} {x1 : Int32} {x3 : Nat} {x4 : Int32} {h : xH} {Q : Outcome → xH → Prop} (hq : bX12_putBuffer_85 G fr lo x0 x1 x3 x4 h Q) : xP G YX12_putBuffer fr lo 85 [(0, rv x0), (1, .int x1), (3, rv x3), (4, .int x4)] [] h Q := by
  unfold bX12_putBuffer_85 at hq
  refine x_aload_n 0 dX12_putBuffer_85 rfl ?_
  obtain ⟨g1, hq⟩ := hq
  refine x_get (v := .int (fI h x0 3170)) fdX12_1121 dX12_putBuffer_86 g1 rfl ?_
  refine x_if_eq (tgt := 93) dX12_putBuffer_89 (by decide) (fun c2 => ?_) (fun c2 => ?_)
  · replace hq := hq.1 c2
    refine x_aload_n 2 dX12_putBuffer_93 rfl ?_
    obtain ⟨g3, hq⟩ := hq
    refine x_get (v := rv (fR h x3 3333)) fdX12_598 dX12_putBuffer_94 g3 rfl ?_
    obtain ⟨g4, hq⟩ := hq
    refine x_get (v := .long (fJ h (fR h x3 3333) 3334)) fdX12_603 dX12_putBuffer_97 g4 rfl ?_
    refine x_lconst (v := 0) dX12_putBuffer_100 (by decide) ?_
    refine x_lcmp dX12_putBuffer_101 ?_
    refine x_if_ne (tgt := 116) dX12_putBuffer_102 (by decide) (fun c5 => ?_) (fun c5 => ?_)
    · replace hq := hq.1 c5
      exact uX12_putBuffer_116 hq
    · replace hq := hq.2 c5
      refine x_aload_n 0 dX12_putBuffer_105 rfl ?_
      refine x_get (v := rv (fR h x0 3195)) fdX12_238 dX12_putBuffer_106 g1 rfl ?_
      refine x_aload_n 0 dX12_putBuffer_109 rfl ?_
      refine x_iload_n 1 dX12_putBuffer_110 rfl ?_
      obtain ⟨g6, g7, hq⟩ := hq
      refine x_callV (Yc := YX12_link) (as := [.int x1]) (st := [rv (fR h x0 3195)]) q4518 mvX12_link g1 rfl dX12_putBuffer_111 (xle (xal1 (rv_cat _) (xal1 rfl xal0)) (by decide)) (xfr g6) (xlo (xsw1 (rv_cat _) xsw0) (by decide) g7) (xKi hq (fun x9 h8 hq e10 => ?_) (fun _ _ q _ => q))
      replace hq := hq e10
      refine x_iconst (v := 0) dX12_putBuffer_114 (by decide) ?_
      obtain ⟨g11, hq⟩ := hq
      obtain ⟨i12, hq⟩ := hq
      obtain ⟨h13, e14⟩ : ∃ y, y = tI h8 (fR h x0 3195) (Int32.toNatClampNeg x9) (vp_nar .boolean 0) := ⟨_, rfl⟩
      replace hq := hq h13 e14
      refine x_zast' g11 i12 dX12_putBuffer_115 e14 ?_
      exact uX12_putBuffer_116 hq
  · replace hq := hq.2 c2
    exact x_vret rfl dX12_putBuffer_92 hq
set_option maxRecDepth 100000 in
def bX12_putBuffer_66 (G : xG) (fr lo : Nat) (x0 : Nat) (x1 : Int32) (x2 : Int32) (x3 : Nat) (x4 : Int32) (h : xH) (Q : Outcome → xH → Prop) : Prop := 1 ≤ fr ∧ 14 ≤ lo ∧ xRi G YX12_weight (fr - 1) (lo - 14) [rv x3] h (fun x4 h3 => xext h h3 → tg h3 x0 = 13 ∧ 1 ≤ fr ∧ 14 ≤ lo ∧ xRi G YX12_hasRoom (fr - 1) (lo - 14) [rv x0, .int x1, .int x4] h3 (fun x10 h9 => xext h3 h9 → ((¬ x10 = 0 → bX12_putBuffer_85 G fr lo x0 x1 x3 x4 h9 Q) ∧ (x10 = 0 → 1 ≤ fr ∧ 14 ≤ lo ∧ xRv G YX12_error (fr - 1) (lo - 14) [rv x0, .int 14, .int x2] h9 (fun h16 => xext h9 h16 → bX12_putBuffer_85 G fr lo x0 x1 x3 x4 h16 Q) (fun r h2 => Q (.threw r) h2)))) (fun r h2 => Q (.threw r) h2)) (fun r h2 => Q (.threw r) h2)
set_option maxRecDepth 100000 in
theorem uX12_putBuffer_66 {G : xG} {fr lo : Nat} {x0 : Nat} {x1 : Int32} {x2 : Int32} {x3 : Nat} {x4 : Int32} {h : xH} {Q : Outcome → xH → Prop} (hq : bX12_putBuffer_66 G fr lo x0 x1 x2 x3 x4 h Q) : xP G YX12_putBuffer fr lo 66 [(0, rv x0), (1, .int x1), (2, .int x2), (3, rv x3), (4, .int x4)] [] h Q := by
  unfold bX12_putBuffer_66 at hq
  refine x_aload_n 0 dX12_putBuffer_66 rfl ?_
  refine x_iload_n 1 dX12_putBuffer_67 rfl ?_
  refine x_aload_n 3 dX12_putBuffer_68 rfl ?_
  obtain ⟨g1, g2, hq⟩ := hq
  refine x_callS (Yc := YX12_weight) (as := [rv x3]) (st := [.int x1, rv x0]) q4741 msX12_weight rfl dX12_putBuffer_69 (xle (xal1 (rv_cat _) xal0) (by decide)) (xfr g1) (xlo (xsw1 rfl (xsw1 (rv_cat _) xsw0)) (by decide) g2) (xKi hq (fun x4 h3 hq e5 => ?_) (fun _ _ q _ => q))
  replace hq := hq e5
  obtain ⟨g6, hq⟩ := hq
  obtain ⟨g7, g8, hq⟩ := hq
  refine x_callV (Yc := YX12_hasRoom) (as := [.int x1, .int x4]) (st := []) q4770 mvX12_hasRoom g6 rfl dX12_putBuffer_72 (xle (xal1 (rv_cat _) (xal1 rfl (xal1 rfl xal0))) (by decide)) (xfr g7) (xlo xsw0 (by decide) g8) (xKi hq (fun x10 h9 hq e11 => ?_) (fun _ _ q _ => q))
  replace hq := hq e11
  refine x_if_ne (tgt := 85) dX12_putBuffer_75 (by decide) (fun c12 => ?_) (fun c12 => ?_)
  · replace hq := hq.1 c12
    refine xP.pick (lv' := [(0, rv x0), (1, .int x1), (3, rv x3), (4, .int x4)]) [0, 1, 3, 4] rfl ?_
    exact uX12_putBuffer_85 hq
  · replace hq := hq.2 c12
    refine x_aload_n 0 dX12_putBuffer_78 rfl ?_
    refine x_bipush (v := 14) dX12_putBuffer_79 (by decide) ?_
    refine x_iload_n 2 dX12_putBuffer_81 rfl ?_
    have t13 : tg h9 x0 = 13 := e11.tg g6 (by decide)
    obtain ⟨g14, g15, hq⟩ := hq
    refine x_callV (Yc := YX12_error) (as := [.int 14, .int x2]) (st := []) q4490 mvX12_error t13 rfl dX12_putBuffer_82 (xle (xal1 (rv_cat _) (xal1 rfl (xal1 rfl xal0))) (by decide)) (xfr g14) (xlo xsw0 (by decide) g15) (xKv hq (fun h16 hq e18 => ?_) (fun _ _ q _ => q))
    replace hq := hq e18
    refine xP.pick (lv' := [(0, rv x0), (1, .int x1), (3, rv x3), (4, .int x4)]) [0, 1, 3, 4] rfl ?_
    exact uX12_putBuffer_85 hq
set_option maxRecDepth 100000 in
def bX12_putBuffer (G : xG) (fr lo : Nat) (x0 : Nat) (x1 : Int32) (x2 : Int32) (h : xH) (Q : Outcome → xH → Prop) : Prop := tg h x0 = 13 ∧ tg h (fR h x0 3189) = 108 ∧ vp_in x1 (ln h (fR h x0 3189)) ∧ tg h (fR h x0 3187) = 100 ∧ vp_in x1 (ln h (fR h x0 3187)) ∧ tg h (fR h x0 3182) = 100 ∧ vp_in x1 (ln h (fR h x0 3182)) ∧ (((aI h (fR h x0 3182) (Int32.toNatClampNeg x1)) = 2 → tg h (aR h (fR h x0 3189) (Int32.toNatClampNeg x1)) = 14 ∧ tg h (fR h (aR h (fR h x0 3189) (Int32.toNatClampNeg x1)) 3333) = 14 ∧ 1 ≤ fr ∧ 12 ≤ lo ∧ xRi G YX13_isKept (fr - 1) (lo - 12) [rv (fR h (aR h (fR h x0 3189) (Int32.toNatClampNeg x1)) 3333)] h (fun x14 h13 => xext h h13 → ((¬ x14 = 0 → bX12_putBuffer_66 G fr lo x0 x1 x2 (aR h (fR h x0 3189) (Int32.toNatClampNeg x1)) ((aI h (fR h x0 3187) (Int32.toNatClampNeg x1)) + 1) h13 Q) ∧ (x14 = 0 → tg h13 (fR h13 x0 3150) = 104 ∧ vp_in ((aI h (fR h x0 3187) (Int32.toNatClampNeg x1)) + 1) (ln h13 (fR h13 x0 3150)) ∧ ((¬ (aI h13 (fR h13 x0 3150) (Int32.toNatClampNeg ((aI h (fR h x0 3187) (Int32.toNatClampNeg x1)) + 1))) = 0 → bX12_putBuffer_66 G fr lo x0 x1 x2 (aR h (fR h x0 3189) (Int32.toNatClampNeg x1)) ((aI h (fR h x0 3187) (Int32.toNatClampNeg x1)) + 1) h13 Q) ∧ ((aI h13 (fR h13 x0 3150) (Int32.toNatClampNeg ((aI h (fR h x0 3187) (Int32.toNatClampNeg x1)) + 1))) = 0 → 1 ≤ fr ∧ 14 ≤ lo ∧ xRv G YX12_error (fr - 1) (lo - 14) [rv x0, .int 5, .int x2] h13 (fun h23 => xext h13 h23 → bX12_putBuffer_85 G fr lo x0 x1 (aR h (fR h x0 3189) (Int32.toNatClampNeg x1)) ((aI h (fR h x0 3187) (Int32.toNatClampNeg x1)) + 1) h23 Q) (fun r h2 => Q (.threw r) h2)))))) (fun r h2 => Q (.threw r) h2)) ∧ (¬ (aI h (fR h x0 3182) (Int32.toNatClampNeg x1)) = 2 → 1 ≤ fr ∧ 14 ≤ lo ∧ xRv G YX12_error (fr - 1) (lo - 14) [rv x0, .int 10, .int x2] h (fun h28 => xext h h28 → bX12_putBuffer_85 G fr lo x0 x1 (aR h (fR h x0 3189) (Int32.toNatClampNeg x1)) ((aI h (fR h x0 3187) (Int32.toNatClampNeg x1)) + 1) h28 Q) (fun r h2 => Q (.threw r) h2)))
set_option maxRecDepth 100000 in
theorem uX12_putBuffer {G : xG} {fr lo : Nat} {x0 : Nat} {x1 : Int32} {x2 : Int32} {h : xH} {Q : Outcome → xH → Prop} (hq : bX12_putBuffer G fr lo x0 x1 x2 h Q) : xP G YX12_putBuffer fr lo 0 [(0, rv x0), (1, .int x1), (2, .int x2)] [] h Q := by
  unfold bX12_putBuffer at hq
  refine x_aload_n 0 dX12_putBuffer_0 rfl ?_
  obtain ⟨g1, hq⟩ := hq
  refine x_get (v := rv (fR h x0 3189)) fdX12_225 dX12_putBuffer_1 g1 rfl ?_
  refine x_iload_n 1 dX12_putBuffer_4 rfl ?_
  obtain ⟨g2, hq⟩ := hq
  obtain ⟨i3, hq⟩ := hq
  refine x_aald 8 rfl g2 (by decide) i3 dX12_putBuffer_5 ?_
  refine x_astore_n (lv' := [(3, rv (aR h (fR h x0 3189) (Int32.toNatClampNeg x1))), (0, rv x0), (1, .int x1), (2, .int x2)]) dX12_putBuffer_6 (by decide) rfl ?_
  refine x_aload_n 1 dX12_putBuffer_7 rfl ?_
  refine x_get (v := rv (fR h x0 3187)) fdX12_219 dX12_putBuffer_8 g1 rfl ?_
  refine x_iload_n 2 dX12_putBuffer_11 rfl ?_
  obtain ⟨g4, hq⟩ := hq
  obtain ⟨i5, hq⟩ := hq
  refine x_iald 0 (Or.inl rfl) g4 i5 dX12_putBuffer_12 ?_
  refine x_iconst (v := 1) dX12_putBuffer_13 (by decide) ?_
  refine x_iadd dX12_putBuffer_14 ?_
  refine x_istore (lv' := [(4, .int ((aI h (fR h x0 3187) (Int32.toNatClampNeg x1)) + 1)), (3, rv (aR h (fR h x0 3189) (Int32.toNatClampNeg x1))), (0, rv x0), (1, .int x1), (2, .int x2)]) dX12_putBuffer_15 (by decide) (by first | rfl | (simp [rv_cat, Value.category]; done) | (simp [rv_cat, Value.category]; decide)) ?_
  refine x_aload_n 2 dX12_putBuffer_17 rfl ?_
  refine x_get (v := rv (fR h x0 3182)) fdX12_204 dX12_putBuffer_18 g1 rfl ?_
  refine x_iload_n 3 dX12_putBuffer_21 rfl ?_
  obtain ⟨g6, hq⟩ := hq
  obtain ⟨i7, hq⟩ := hq
  refine x_iald 0 (Or.inl rfl) g6 i7 dX12_putBuffer_22 ?_
  refine x_iconst (v := 2) dX12_putBuffer_23 (by decide) ?_
  refine x_icmp_eq (tgt := 37) dX12_putBuffer_24 (by decide) (fun c8 => ?_) (fun c8 => ?_)
  · replace hq := hq.1 c8
    refine x_aload_n 1 dX12_putBuffer_37 rfl ?_
    obtain ⟨g9, hq⟩ := hq
    refine x_get (v := rv (fR h (aR h (fR h x0 3189) (Int32.toNatClampNeg x1)) 3333)) fdX12_598 dX12_putBuffer_38 g9 rfl ?_
    obtain ⟨g10, hq⟩ := hq
    obtain ⟨g11, g12, hq⟩ := hq
    refine x_callV (Yc := YX13_isKept) (as := []) (st := []) q4627 mvX13_isKept g10 rfl dX12_putBuffer_41 (xle (xal1 (rv_cat _) xal0) (by decide)) (xfr g11) (xlo xsw0 (by decide) g12) (xKi hq (fun x14 h13 hq e15 => ?_) (fun _ _ q _ => q))
    replace hq := hq e15
    refine x_if_ne (tgt := 66) dX12_putBuffer_44 (by decide) (fun c16 => ?_) (fun c16 => ?_)
    · replace hq := hq.1 c16
      refine xP.pick (lv' := [(0, rv x0), (1, .int x1), (2, .int x2), (3, rv (aR h (fR h x0 3189) (Int32.toNatClampNeg x1))), (4, .int ((aI h (fR h x0 3187) (Int32.toNatClampNeg x1)) + 1))]) [2, 3, 4, 1, 0] rfl ?_
      exact uX12_putBuffer_66 hq
    · replace hq := hq.2 c16
      refine x_aload_n 2 dX12_putBuffer_47 rfl ?_
      have t17 : tg h13 x0 = 13 := e15.tg g1 (by decide)
      refine x_get (v := rv (fR h13 x0 3150)) fdX12_169 dX12_putBuffer_48 t17 rfl ?_
      refine x_iload 0 dX12_putBuffer_51 rfl ?_
      obtain ⟨g18, hq⟩ := hq
      obtain ⟨i19, hq⟩ := hq
      refine x_zald g18 i19 dX12_putBuffer_53 ?_
      refine x_if_ne (tgt := 66) dX12_putBuffer_54 (by decide) (fun c20 => ?_) (fun c20 => ?_)
      · replace hq := hq.1 c20
        refine xP.pick (lv' := [(0, rv x0), (1, .int x1), (2, .int x2), (3, rv (aR h (fR h x0 3189) (Int32.toNatClampNeg x1))), (4, .int ((aI h (fR h x0 3187) (Int32.toNatClampNeg x1)) + 1))]) [2, 3, 4, 1, 0] rfl ?_
        exact uX12_putBuffer_66 hq
      · replace hq := hq.2 c20
        refine x_aload_n 2 dX12_putBuffer_57 rfl ?_
        refine x_iconst (v := 5) dX12_putBuffer_58 (by decide) ?_
        refine x_iload_n 4 dX12_putBuffer_59 rfl ?_
        obtain ⟨g21, g22, hq⟩ := hq
        refine x_callV (Yc := YX12_error) (as := [.int 5, .int x2]) (st := []) q4490 mvX12_error t17 rfl dX12_putBuffer_60 (xle (xal1 (rv_cat _) (xal1 rfl (xal1 rfl xal0))) (by decide)) (xfr g21) (xlo xsw0 (by decide) g22) (xKv hq (fun h23 hq e25 => ?_) (fun _ _ q _ => q))
        replace hq := hq e25
        refine x_goto (tgt := 85) dX12_putBuffer_63 (by decide) ?_
        refine xP.pick (lv' := [(0, rv x0), (1, .int x1), (3, rv (aR h (fR h x0 3189) (Int32.toNatClampNeg x1))), (4, .int ((aI h (fR h x0 3187) (Int32.toNatClampNeg x1)) + 1))]) [2, 3, 1, 0] rfl ?_
        exact uX12_putBuffer_85 hq
  · replace hq := hq.2 c8
    refine x_aload_n 2 dX12_putBuffer_27 rfl ?_
    refine x_bipush (v := 10) dX12_putBuffer_28 (by decide) ?_
    refine x_iload_n 4 dX12_putBuffer_30 rfl ?_
    obtain ⟨g26, g27, hq⟩ := hq
    refine x_callV (Yc := YX12_error) (as := [.int 10, .int x2]) (st := []) q4490 mvX12_error g1 rfl dX12_putBuffer_31 (xle (xal1 (rv_cat _) (xal1 rfl (xal1 rfl xal0))) (by decide)) (xfr g26) (xlo xsw0 (by decide) g27) (xKv hq (fun h28 hq e30 => ?_) (fun _ _ q _ => q))
    replace hq := hq e30
    refine x_goto (tgt := 85) dX12_putBuffer_34 (by decide) ?_
    refine xP.pick (lv' := [(0, rv x0), (1, .int x1), (3, rv (aR h (fR h x0 3189) (Int32.toNatClampNeg x1))), (4, .int ((aI h (fR h x0 3187) (Int32.toNatClampNeg x1)) + 1))]) [2, 3, 1, 0] rfl ?_
    exact uX12_putBuffer_85 hq
theorem rX12_putBuffer {G : xG} {fr lo : Nat} {x0 : Nat} {x1 : Int32} {x2 : Int32} {h : xH} {Q : Outcome → xH → Prop} (hq : bX12_putBuffer G fr lo x0 x1 x2 h Q) : xR G YX12_putBuffer fr lo [rv x0, .int x1, .int x2] h Q := by
  show xP _ _ _ _ _ (lv_args 0 _) _ _ _
  rw [show lv_args 0 [rv x0, .int x1, .int x2] = [(0, rv x0), (1, .int x1), (2, .int x2)] from (xla1 (rv_cat _) (xla1 rfl (xla1 rfl xla0)))]
  exact uX12_putBuffer hq
set_option maxRecDepth 100000 in
theorem dX12_get_0 : decode cX12_get 0 = .ok (.aload_n 0, 1) := by decide +kernel
set_option maxRecDepth 100000 in
theorem dX12_get_1 : decode cX12_get 1 = .ok (.getfield 204, 3) := by decide +kernel
set_option maxRecDepth 100000 in
theorem dX12_get_4 : decode cX12_get 4 = .ok (.iload_n 1, 1) := by decide +kernel
set_option maxRecDepth 100000 in
theorem dX12_get_5 : decode cX12_get 5 = .ok (.iaload, 1) := by decide +kernel
set_option maxRecDepth 100000 in
theorem dX12_get_6 : decode cX12_get 6 = .ok (.iconst 1, 1) := by decide +kernel
set_option maxRecDepth 100000 in
theorem dX12_get_7 : decode cX12_get 7 = .ok (.if_icmp .ne 13, 3) := by decide +kernel
set_option maxRecDepth 100000 in
theorem dX12_get_10 : decode cX12_get 10 = .ok (.aload_n 0, 1) := by decide +kernel
set_option maxRecDepth 100000 in
theorem dX12_get_11 : decode cX12_get 11 = .ok (.getfield 213, 3) := by decide +kernel
set_option maxRecDepth 100000 in
theorem dX12_get_14 : decode cX12_get 14 = .ok (.iload_n 1, 1) := by decide +kernel
set_option maxRecDepth 100000 in
theorem dX12_get_15 : decode cX12_get 15 = .ok (.iaload, 1) := by decide +kernel
set_option maxRecDepth 100000 in
theorem dX12_get_16 : decode cX12_get 16 = .ok (.iconst (-1), 1) := by decide +kernel
set_option maxRecDepth 100000 in
theorem dX12_get_17 : decode cX12_get 17 = .ok (.if_icmp .ne 11, 3) := by decide +kernel
set_option maxRecDepth 100000 in
theorem dX12_get_20 : decode cX12_get 20 = .ok (.aload_n 0, 1) := by decide +kernel
set_option maxRecDepth 100000 in
theorem dX12_get_21 : decode cX12_get 21 = .ok (.bipush 10, 2) := by decide +kernel
set_option maxRecDepth 100000 in
theorem dX12_get_23 : decode cX12_get 23 = .ok (.iload_n 2, 1) := by decide +kernel
set_option maxRecDepth 100000 in
theorem dX12_get_24 : decode cX12_get 24 = .ok (.invokevirtual 1142, 3) := by decide +kernel
set_option maxRecDepth 100000 in
theorem dX12_get_27 : decode cX12_get 27 = .ok (.return_, 1) := by decide +kernel
set_option maxRecDepth 100000 in
theorem dX12_get_28 : decode cX12_get 28 = .ok (.aload_n 0, 1) := by decide +kernel
set_option maxRecDepth 100000 in
theorem dX12_get_29 : decode cX12_get 29 = .ok (.iload_n 1, 1) := by decide +kernel
set_option maxRecDepth 100000 in
theorem dX12_get_30 : decode cX12_get 30 = .ok (.invokevirtual 1207, 3) := by decide +kernel
set_option maxRecDepth 100000 in
theorem dX12_get_33 : decode cX12_get 33 = .ok (.aload_n 0, 1) := by decide +kernel
set_option maxRecDepth 100000 in
theorem dX12_get_34 : decode cX12_get 34 = .ok (.iload_n 1, 1) := by decide +kernel
set_option maxRecDepth 100000 in
theorem dX12_get_35 : decode cX12_get 35 = .ok (.invokevirtual 1201, 3) := by decide +kernel
set_option maxRecDepth 100000 in
theorem dX12_get_38 : decode cX12_get 38 = .ok (.return_, 1) := by decide +kernel
set_option maxRecDepth 100000 in
def bX12_get_20 (G : xG) (fr lo : Nat) (x0 : Nat) (x2 : Int32) (h : xH) (Q : Outcome → xH → Prop) : Prop := tg h x0 = 13 ∧ 1 ≤ fr ∧ 14 ≤ lo ∧ xRv G YX12_error (fr - 1) (lo - 14) [rv x0, .int 10, .int x2] h (fun h4 => xext h h4 → Q (.returned none) h4) (fun r h2 => Q (.threw r) h2)
set_option maxRecDepth 100000 in
theorem uX12_get_20 {G : xG} {fr lo : Nat} {x0 : Nat} {x2 : Int32} {h : xH} {Q : Outcome → xH → Prop} (hq : bX12_get_20 G fr lo x0 x2 h Q) : xP G YX12_get fr lo 20 [(0, rv x0), (2, .int x2)] [] h Q := by
  unfold bX12_get_20 at hq
  refine x_aload_n 0 dX12_get_20 rfl ?_
  refine x_bipush (v := 10) dX12_get_21 (by decide) ?_
  refine x_iload_n 1 dX12_get_23 rfl ?_
  obtain ⟨g1, hq⟩ := hq
  obtain ⟨g2, g3, hq⟩ := hq
  refine x_callV (Yc := YX12_error) (as := [.int 10, .int x2]) (st := []) q4490 mvX12_error g1 rfl dX12_get_24 (xle (xal1 (rv_cat _) (xal1 rfl (xal1 rfl xal0))) (by decide)) (xfr g2) (xlo xsw0 (by decide) g3) (xKv hq (fun h4 hq e6 => ?_) (fun _ _ q _ => q))
  replace hq := hq e6
  exact x_vret rfl dX12_get_27 hq
set_option maxRecDepth 100000 in
def bX12_get (G : xG) (fr lo : Nat) (x0 : Nat) (x1 : Int32) (x2 : Int32) (h : xH) (Q : Outcome → xH → Prop) : Prop := tg h x0 = 13 ∧ tg h (fR h x0 3182) = 100 ∧ vp_in x1 (ln h (fR h x0 3182)) ∧ ((¬ (aI h (fR h x0 3182) (Int32.toNatClampNeg x1)) = 1 → bX12_get_20 G fr lo x0 x2 h Q) ∧ ((aI h (fR h x0 3182) (Int32.toNatClampNeg x1)) = 1 → tg h (fR h x0 3185) = 100 ∧ vp_in x1 (ln h (fR h x0 3185)) ∧ ((¬ (aI h (fR h x0 3185) (Int32.toNatClampNeg x1)) = (-1) → 1 ≤ fr ∧ 15 ≤ lo ∧ xRv G YX12_goOn (fr - 1) (lo - 15) [rv x0, .int x1] h (fun h10 => xext h h10 → 1 ≤ fr ∧ 17 ≤ lo ∧ xRv G YX12_bringBuffer (fr - 1) (lo - 17) [rv x0, .int x1] h10 (fun h16 => xext h10 h16 → Q (.returned none) h16) (fun r h2 => Q (.threw r) h2)) (fun r h2 => Q (.threw r) h2)) ∧ ((aI h (fR h x0 3185) (Int32.toNatClampNeg x1)) = (-1) → bX12_get_20 G fr lo x0 x2 h Q))))
set_option maxRecDepth 100000 in
theorem uX12_get {G : xG} {fr lo : Nat} {x0 : Nat} {x1 : Int32} {x2 : Int32} {h : xH} {Q : Outcome → xH → Prop} (hq : bX12_get G fr lo x0 x1 x2 h Q) : xP G YX12_get fr lo 0 [(0, rv x0), (1, .int x1), (2, .int x2)] [] h Q := by
  unfold bX12_get at hq
  refine x_aload_n 0 dX12_get_0 rfl ?_
  obtain ⟨g1, hq⟩ := hq
  refine x_get (v := rv (fR h x0 3182)) fdX12_204 dX12_get_1 g1 rfl ?_
  refine x_iload_n 1 dX12_get_4 rfl ?_
  obtain ⟨g2, hq⟩ := hq
  obtain ⟨i3, hq⟩ := hq
  refine x_iald 0 (Or.inl rfl) g2 i3 dX12_get_5 ?_
  refine x_iconst (v := 1) dX12_get_6 (by decide) ?_
  refine x_icmp_ne (tgt := 20) dX12_get_7 (by decide) (fun c4 => ?_) (fun c4 => ?_)
  · replace hq := hq.1 c4
    refine xP.pick (lv' := [(0, rv x0), (2, .int x2)]) [0, 2] rfl ?_
    exact uX12_get_20 hq
  · replace hq := hq.2 c4
    refine x_aload_n 0 dX12_get_10 rfl ?_
    refine x_get (v := rv (fR h x0 3185)) fdX12_213 dX12_get_11 g1 rfl ?_
    refine x_iload_n 1 dX12_get_14 rfl ?_
    obtain ⟨g5, hq⟩ := hq
    obtain ⟨i6, hq⟩ := hq
    refine x_iald 0 (Or.inl rfl) g5 i6 dX12_get_15 ?_
    refine x_iconst (v := (-1)) dX12_get_16 (by decide) ?_
    refine x_icmp_ne (tgt := 28) dX12_get_17 (by decide) (fun c7 => ?_) (fun c7 => ?_)
    · replace hq := hq.1 c7
      refine x_aload_n 0 dX12_get_28 rfl ?_
      refine x_iload_n 1 dX12_get_29 rfl ?_
      obtain ⟨g8, g9, hq⟩ := hq
      refine x_callV (Yc := YX12_goOn) (as := [.int x1]) (st := []) q4737 mvX12_goOn g1 rfl dX12_get_30 (xle (xal1 (rv_cat _) (xal1 rfl xal0)) (by decide)) (xfr g8) (xlo xsw0 (by decide) g9) (xKv hq (fun h10 hq e12 => ?_) (fun _ _ q _ => q))
      replace hq := hq e12
      refine x_aload_n 0 dX12_get_33 rfl ?_
      refine x_iload_n 1 dX12_get_34 rfl ?_
      have t13 : tg h10 x0 = 13 := e12.tg g1 (by decide)
      obtain ⟨g14, g15, hq⟩ := hq
      refine x_callV (Yc := YX12_bringBuffer) (as := [.int x1]) (st := []) q4526 mvX12_bringBuffer t13 rfl dX12_get_35 (xle (xal1 (rv_cat _) (xal1 rfl xal0)) (by decide)) (xfr g14) (xlo xsw0 (by decide) g15) (xKv hq (fun h16 hq e18 => ?_) (fun _ _ q _ => q))
      replace hq := hq e18
      exact x_vret rfl dX12_get_38 hq
    · replace hq := hq.2 c7
      refine xP.pick (lv' := [(0, rv x0), (2, .int x2)]) [0, 2] rfl ?_
      exact uX12_get_20 hq
theorem rX12_get {G : xG} {fr lo : Nat} {x0 : Nat} {x1 : Int32} {x2 : Int32} {h : xH} {Q : Outcome → xH → Prop} (hq : bX12_get G fr lo x0 x1 x2 h Q) : xR G YX12_get fr lo [rv x0, .int x1, .int x2] h Q := by
  show xP _ _ _ _ _ (lv_args 0 _) _ _ _
  rw [show lv_args 0 [rv x0, .int x1, .int x2] = [(0, rv x0), (1, .int x1), (2, .int x2)] from (xla1 (rv_cat _) (xla1 rfl (xla1 rfl xla0)))]
  exact uX12_get hq
set_option maxRecDepth 100000 in
theorem dX12_make_0 : decode cX12_make 0 = .ok (.aload_n 0, 1) := by decide +kernel
set_option maxRecDepth 100000 in
theorem dX12_make_1 : decode cX12_make 1 = .ok (.iload_n 1, 1) := by decide +kernel
set_option maxRecDepth 100000 in
theorem dX12_make_2 : decode cX12_make 2 = .ok (.invokevirtual 1248, 3) := by decide +kernel
set_option maxRecDepth 100000 in
theorem dX12_make_5 : decode cX12_make 5 = .ok (.aload_n 0, 1) := by decide +kernel
set_option maxRecDepth 100000 in
theorem dX12_make_6 : decode cX12_make 6 = .ok (.getfield 1121, 3) := by decide +kernel
set_option maxRecDepth 100000 in
theorem dX12_make_9 : decode cX12_make 9 = .ok (.ifCond .eq 4, 3) := by decide +kernel
set_option maxRecDepth 100000 in
theorem dX12_make_12 : decode cX12_make 12 = .ok (.return_, 1) := by decide +kernel
set_option maxRecDepth 100000 in
theorem dX12_make_13 : decode cX12_make 13 = .ok (.lconst 1, 1) := by decide +kernel
set_option maxRecDepth 100000 in
theorem dX12_make_14 : decode cX12_make 14 = .ok (.aload_n 0, 1) := by decide +kernel
set_option maxRecDepth 100000 in
theorem dX12_make_15 : decode cX12_make 15 = .ok (.getfield 96, 3) := by decide +kernel
set_option maxRecDepth 100000 in
theorem dX12_make_18 : decode cX12_make 18 = .ok (.iload_n 1, 1) := by decide +kernel
set_option maxRecDepth 100000 in
theorem dX12_make_19 : decode cX12_make 19 = .ok (.aaload, 1) := by decide +kernel
set_option maxRecDepth 100000 in
theorem dX12_make_20 : decode cX12_make 20 = .ok (.getfield 598, 3) := by decide +kernel
set_option maxRecDepth 100000 in
theorem dX12_make_23 : decode cX12_make 23 = .ok (.getfield 603, 3) := by decide +kernel
set_option maxRecDepth 100000 in
theorem dX12_make_26 : decode cX12_make 26 = .ok (.invokestatic 1181, 3) := by decide +kernel
set_option maxRecDepth 100000 in
theorem dX12_make_29 : decode cX12_make 29 = .ok (.l2i, 1) := by decide +kernel
set_option maxRecDepth 100000 in
theorem dX12_make_30 : decode cX12_make 30 = .ok (.istore_n 3, 1) := by decide +kernel
set_option maxRecDepth 100000 in
theorem dX12_make_31 : decode cX12_make 31 = .ok (.aload_n 0, 1) := by decide +kernel
set_option maxRecDepth 100000 in
theorem dX12_make_32 : decode cX12_make 32 = .ok (.getfield 1436, 3) := by decide +kernel
set_option maxRecDepth 100000 in
theorem dX12_make_35 : decode cX12_make 35 = .ok (.iload_n 3, 1) := by decide +kernel
set_option maxRecDepth 100000 in
theorem dX12_make_36 : decode cX12_make 36 = .ok (.iadd, 1) := by decide +kernel
set_option maxRecDepth 100000 in
theorem dX12_make_37 : decode cX12_make 37 = .ok (.sipush 10000, 3) := by decide +kernel
set_option maxRecDepth 100000 in
theorem dX12_make_40 : decode cX12_make 40 = .ok (.if_icmp .le 11, 3) := by decide +kernel
set_option maxRecDepth 100000 in
theorem dX12_make_43 : decode cX12_make 43 = .ok (.aload_n 0, 1) := by decide +kernel
set_option maxRecDepth 100000 in
theorem dX12_make_44 : decode cX12_make 44 = .ok (.bipush 14, 2) := by decide +kernel
set_option maxRecDepth 100000 in
theorem dX12_make_46 : decode cX12_make 46 = .ok (.iload_n 2, 1) := by decide +kernel
set_option maxRecDepth 100000 in
theorem dX12_make_47 : decode cX12_make 47 = .ok (.invokevirtual 1142, 3) := by decide +kernel
set_option maxRecDepth 100000 in
theorem dX12_make_50 : decode cX12_make 50 = .ok (.return_, 1) := by decide +kernel
set_option maxRecDepth 100000 in
theorem dX12_make_51 : decode cX12_make 51 = .ok (.aload_n 0, 1) := by decide +kernel
set_option maxRecDepth 100000 in
theorem dX12_make_52 : decode cX12_make 52 = .ok (.dup, 1) := by decide +kernel
set_option maxRecDepth 100000 in
theorem dX12_make_53 : decode cX12_make 53 = .ok (.getfield 1439, 3) := by decide +kernel
set_option maxRecDepth 100000 in
theorem dX12_make_56 : decode cX12_make 56 = .ok (.iconst 1, 1) := by decide +kernel
set_option maxRecDepth 100000 in
theorem dX12_make_57 : decode cX12_make 57 = .ok (.iadd, 1) := by decide +kernel
set_option maxRecDepth 100000 in
theorem dX12_make_58 : decode cX12_make 58 = .ok (.putfield 1439, 3) := by decide +kernel
set_option maxRecDepth 100000 in
theorem dX12_make_61 : decode cX12_make 61 = .ok (.aload_n 0, 1) := by decide +kernel
set_option maxRecDepth 100000 in
theorem dX12_make_62 : decode cX12_make 62 = .ok (.dup, 1) := by decide +kernel
set_option maxRecDepth 100000 in
theorem dX12_make_63 : decode cX12_make 63 = .ok (.getfield 1433, 3) := by decide +kernel
set_option maxRecDepth 100000 in
theorem dX12_make_66 : decode cX12_make 66 = .ok (.iconst 1, 1) := by decide +kernel
set_option maxRecDepth 100000 in
theorem dX12_make_67 : decode cX12_make 67 = .ok (.iadd, 1) := by decide +kernel
set_option maxRecDepth 100000 in
theorem dX12_make_68 : decode cX12_make 68 = .ok (.putfield 1433, 3) := by decide +kernel
set_option maxRecDepth 100000 in
theorem dX12_make_71 : decode cX12_make 71 = .ok (.aload_n 0, 1) := by decide +kernel
set_option maxRecDepth 100000 in
theorem dX12_make_72 : decode cX12_make 72 = .ok (.getfield 173, 3) := by decide +kernel
set_option maxRecDepth 100000 in
theorem dX12_make_75 : decode cX12_make 75 = .ok (.aload_n 0, 1) := by decide +kernel
set_option maxRecDepth 100000 in
theorem dX12_make_76 : decode cX12_make 76 = .ok (.getfield 1439, 3) := by decide +kernel
set_option maxRecDepth 100000 in
theorem dX12_make_79 : decode cX12_make 79 = .ok (.sipush 20000, 3) := by decide +kernel
set_option maxRecDepth 100000 in
theorem dX12_make_82 : decode cX12_make 82 = .ok (.aload_n 0, 1) := by decide +kernel
set_option maxRecDepth 100000 in
theorem dX12_make_83 : decode cX12_make 83 = .ok (.getfield 1436, 3) := by decide +kernel
set_option maxRecDepth 100000 in
theorem dX12_make_86 : decode cX12_make 86 = .ok (.iadd, 1) := by decide +kernel
set_option maxRecDepth 100000 in
theorem dX12_make_87 : decode cX12_make 87 = .ok (.iastore, 1) := by decide +kernel
set_option maxRecDepth 100000 in
theorem dX12_make_88 : decode cX12_make 88 = .ok (.aload_n 0, 1) := by decide +kernel
set_option maxRecDepth 100000 in
theorem dX12_make_89 : decode cX12_make 89 = .ok (.getfield 176, 3) := by decide +kernel
set_option maxRecDepth 100000 in
theorem dX12_make_92 : decode cX12_make 92 = .ok (.aload_n 0, 1) := by decide +kernel
set_option maxRecDepth 100000 in
theorem dX12_make_93 : decode cX12_make 93 = .ok (.getfield 1439, 3) := by decide +kernel
set_option maxRecDepth 100000 in
theorem dX12_make_96 : decode cX12_make 96 = .ok (.iconst 0, 1) := by decide +kernel
set_option maxRecDepth 100000 in
theorem dX12_make_97 : decode cX12_make 97 = .ok (.bastore, 1) := by decide +kernel
set_option maxRecDepth 100000 in
theorem dX12_make_98 : decode cX12_make 98 = .ok (.aload_n 0, 1) := by decide +kernel
set_option maxRecDepth 100000 in
theorem dX12_make_99 : decode cX12_make 99 = .ok (.sipush 20000, 3) := by decide +kernel
set_option maxRecDepth 100000 in
theorem dX12_make_102 : decode cX12_make 102 = .ok (.aload_n 0, 1) := by decide +kernel
set_option maxRecDepth 100000 in
theorem dX12_make_103 : decode cX12_make 103 = .ok (.getfield 1436, 3) := by decide +kernel
set_option maxRecDepth 100000 in
theorem dX12_make_106 : decode cX12_make 106 = .ok (.iadd, 1) := by decide +kernel
set_option maxRecDepth 100000 in
theorem dX12_make_107 : decode cX12_make 107 = .ok (.sipush 20000, 3) := by decide +kernel
set_option maxRecDepth 100000 in
theorem dX12_make_110 : decode cX12_make 110 = .ok (.aload_n 0, 1) := by decide +kernel
set_option maxRecDepth 100000 in
theorem dX12_make_111 : decode cX12_make 111 = .ok (.getfield 1436, 3) := by decide +kernel
set_option maxRecDepth 100000 in
theorem dX12_make_114 : decode cX12_make 114 = .ok (.iadd, 1) := by decide +kernel
set_option maxRecDepth 100000 in
theorem dX12_make_115 : decode cX12_make 115 = .ok (.iload_n 3, 1) := by decide +kernel
set_option maxRecDepth 100000 in
theorem dX12_make_116 : decode cX12_make 116 = .ok (.iadd, 1) := by decide +kernel
set_option maxRecDepth 100000 in
theorem dX12_make_117 : decode cX12_make 117 = .ok (.invokevirtual 1178, 3) := by decide +kernel
set_option maxRecDepth 100000 in
theorem dX12_make_120 : decode cX12_make 120 = .ok (.aload_n 0, 1) := by decide +kernel
set_option maxRecDepth 100000 in
theorem dX12_make_121 : decode cX12_make 121 = .ok (.dup, 1) := by decide +kernel
set_option maxRecDepth 100000 in
theorem dX12_make_122 : decode cX12_make 122 = .ok (.getfield 1436, 3) := by decide +kernel
set_option maxRecDepth 100000 in
theorem dX12_make_125 : decode cX12_make 125 = .ok (.iload_n 3, 1) := by decide +kernel
set_option maxRecDepth 100000 in
theorem dX12_make_126 : decode cX12_make 126 = .ok (.iadd, 1) := by decide +kernel
set_option maxRecDepth 100000 in
theorem dX12_make_127 : decode cX12_make 127 = .ok (.putfield 1436, 3) := by decide +kernel
set_option maxRecDepth 100000 in
theorem dX12_make_130 : decode cX12_make 130 = .ok (.aload_n 0, 1) := by decide +kernel
set_option maxRecDepth 100000 in
theorem dX12_make_131 : decode cX12_make 131 = .ok (.getfield 169, 3) := by decide +kernel
set_option maxRecDepth 100000 in
theorem dX12_make_134 : decode cX12_make 134 = .ok (.aload_n 0, 1) := by decide +kernel
set_option maxRecDepth 100000 in
theorem dX12_make_135 : decode cX12_make 135 = .ok (.getfield 1236, 3) := by decide +kernel
set_option maxRecDepth 100000 in
theorem dX12_make_138 : decode cX12_make 138 = .ok (.iconst 1, 1) := by decide +kernel
set_option maxRecDepth 100000 in
theorem dX12_make_139 : decode cX12_make 139 = .ok (.bastore, 1) := by decide +kernel
set_option maxRecDepth 100000 in
theorem dX12_make_140 : decode cX12_make 140 = .ok (.aload_n 0, 1) := by decide +kernel
set_option maxRecDepth 100000 in
theorem dX12_make_141 : decode cX12_make 141 = .ok (.getfield 159, 3) := by decide +kernel
set_option maxRecDepth 100000 in
theorem dX12_make_144 : decode cX12_make 144 = .ok (.aload_n 0, 1) := by decide +kernel
set_option maxRecDepth 100000 in
theorem dX12_make_145 : decode cX12_make 145 = .ok (.getfield 1236, 3) := by decide +kernel
set_option maxRecDepth 100000 in
theorem dX12_make_148 : decode cX12_make 148 = .ok (.aload_n 0, 1) := by decide +kernel
set_option maxRecDepth 100000 in
theorem dX12_make_149 : decode cX12_make 149 = .ok (.getfield 1439, 3) := by decide +kernel
set_option maxRecDepth 100000 in
theorem dX12_make_152 : decode cX12_make 152 = .ok (.i2l, 1) := by decide +kernel
set_option maxRecDepth 100000 in
theorem dX12_make_153 : decode cX12_make 153 = .ok (.lastore, 1) := by decide +kernel
set_option maxRecDepth 100000 in
theorem dX12_make_154 : decode cX12_make 154 = .ok (.return_, 1) := by decide +kernel
set_option maxRecDepth 100000 in
def bX12_make (G : xG) (fr lo : Nat) (x0 : Nat) (x1 : Int32) (x2 : Int32) (h : xH) (Q : Outcome → xH → Prop) : Prop := tg h x0 = 13 ∧ 1 ≤ fr ∧ 17 ≤ lo ∧ xRv G YX12_find1 (fr - 1) (lo - 17) [rv x0, .int x1] h (fun h4 => xext h h4 → (((fI h4 x0 3170) = 0 → tg h4 (fR h4 x0 3113) = 108 ∧ vp_in x1 (ln h4 (fR h4 x0 3113)) ∧ tg h4 (aR h4 (fR h4 x0 3113) (Int32.toNatClampNeg x1)) = 14 ∧ tg h4 (fR h4 (aR h4 (fR h4 x0 3113) (Int32.toNatClampNeg x1)) 3333) = 14 ∧ 1 ≤ fr ∧ 15 ≤ lo ∧ xRj G YJ10_max_2 (fr - 1) (lo - 15) [.long 1, .long (fJ h4 (fR h4 (aR h4 (fR h4 x0 3113) (Int32.toNatClampNeg x1)) 3333) 3334)] h4 (fun x16 h15 => xext h4 h15 → ((((fI h15 x0 3153) + (Int64.toInt32 x16)) ≤ 10000 → (∀ h20 : xH, h20 = sI h15 x0 3156 ((fI h15 x0 3156) + 1) → (∀ h23 : xH, h23 = sI h20 x0 3157 ((fI h20 x0 3157) + 1) → tg h23 (fR h23 x0 3154) = 100 ∧ vp_in (fI h23 x0 3156) (ln h23 (fR h23 x0 3154)) ∧ (∀ h28 : xH, h28 = tI h23 (fR h23 x0 3154) (Int32.toNatClampNeg (fI h23 x0 3156)) (20000 + (fI h23 x0 3153)) → tg h28 (fR h28 x0 3155) = 104 ∧ vp_in (fI h28 x0 3156) (ln h28 (fR h28 x0 3155)) ∧ (∀ h33 : xH, h33 = tI h28 (fR h28 x0 3155) (Int32.toNatClampNeg (fI h28 x0 3156)) (vp_nar .boolean 0) → 1 ≤ fr ∧ 15 ≤ lo ∧ xRv G YX12_blank (fr - 1) (lo - 15) [rv x0, .int (20000 + (fI h33 x0 3153)), .int ((20000 + (fI h33 x0 3153)) + (Int64.toInt32 x16))] h33 (fun h38 => xext h33 h38 → (∀ h42 : xH, h42 = sI h38 x0 3153 ((fI h38 x0 3153) + (Int64.toInt32 x16)) → tg h42 (fR h42 x0 3150) = 104 ∧ vp_in (fI h42 x0 3181) (ln h42 (fR h42 x0 3150)) ∧ (∀ h47 : xH, h47 = tI h42 (fR h42 x0 3150) (Int32.toNatClampNeg (fI h42 x0 3181)) (vp_nar .boolean 1) → tg h47 (fR h47 x0 3147) = 101 ∧ vp_in (fI h47 x0 3181) (ln h47 (fR h47 x0 3147)) ∧ (∀ h52 : xH, h52 = tJ h47 (fR h47 x0 3147) (Int32.toNatClampNeg (fI h47 x0 3181)) (Int32.toInt64 (fI h47 x0 3156)) → Q (.returned none) h52)))) (fun r h2 => Q (.threw r) h2)))))) ∧ (¬ ((fI h15 x0 3153) + (Int64.toInt32 x16)) ≤ 10000 → 1 ≤ fr ∧ 14 ≤ lo ∧ xRv G YX12_error (fr - 1) (lo - 14) [rv x0, .int 14, .int x2] h15 (fun h56 => xext h15 h56 → Q (.returned none) h56) (fun r h2 => Q (.threw r) h2)))) (fun r h2 => Q (.threw r) h2)) ∧ (¬ (fI h4 x0 3170) = 0 → Q (.returned none) h4))) (fun r h2 => Q (.threw r) h2)
set_option maxRecDepth 100000 in
theorem uX12_make {G : xG} {fr lo : Nat} {x0 : Nat} {x1 : Int32} {x2 : Int32} {h : xH} {Q : Outcome → xH → Prop} (hq : bX12_make G fr lo x0 x1 x2 h Q) : xP G YX12_make fr lo 0 [(0, rv x0), (1, .int x1), (2, .int x2)] [] h Q := by
  unfold bX12_make at hq
  refine x_aload_n 0 dX12_make_0 rfl ?_
  refine x_iload_n 1 dX12_make_1 rfl ?_
  obtain ⟨g1, hq⟩ := hq
  obtain ⟨g2, g3, hq⟩ := hq
  refine x_callV (Yc := YX12_find1) (as := [.int x1]) (st := []) q4615 mvX12_find1 g1 rfl dX12_make_2 (xle (xal1 (rv_cat _) (xal1 rfl xal0)) (by decide)) (xfr g2) (xlo xsw0 (by decide) g3) (xKv hq (fun h4 hq e6 => ?_) (fun _ _ q _ => q))
  replace hq := hq e6
  refine x_aload_n 0 dX12_make_5 rfl ?_
  have t7 : tg h4 x0 = 13 := e6.tg g1 (by decide)
  refine x_get (v := .int (fI h4 x0 3170)) fdX12_1121 dX12_make_6 t7 rfl ?_
  refine x_if_eq (tgt := 13) dX12_make_9 (by decide) (fun c8 => ?_) (fun c8 => ?_)
  · replace hq := hq.1 c8
    refine x_lconst (v := 1) dX12_make_13 (by decide) ?_
    refine x_aload_n 0 dX12_make_14 rfl ?_
    refine x_get (v := rv (fR h4 x0 3113)) fdX12_96 dX12_make_15 t7 rfl ?_
    refine x_iload_n 1 dX12_make_18 rfl ?_
    obtain ⟨g9, hq⟩ := hq
    obtain ⟨i10, hq⟩ := hq
    refine x_aald 8 rfl g9 (by decide) i10 dX12_make_19 ?_
    obtain ⟨g11, hq⟩ := hq
    refine x_get (v := rv (fR h4 (aR h4 (fR h4 x0 3113) (Int32.toNatClampNeg x1)) 3333)) fdX12_598 dX12_make_20 g11 rfl ?_
    obtain ⟨g12, hq⟩ := hq
    refine x_get (v := .long (fJ h4 (fR h4 (aR h4 (fR h4 x0 3113) (Int32.toNatClampNeg x1)) 3333) 3334)) fdX12_603 dX12_make_23 g12 rfl ?_
    obtain ⟨g13, g14, hq⟩ := hq
    refine x_callS (Yc := YJ10_max_2) (as := [.long 1, .long (fJ h4 (fR h4 (aR h4 (fR h4 x0 3113) (Int32.toNatClampNeg x1)) 3333) 3334)]) (st := []) q4744 msJ10_max_2 rfl dX12_make_26 (xle (xal2 rfl (xal2 rfl xal0)) (by decide)) (xfr g13) (xlo xsw0 (by decide) g14) (xKj hq (fun x16 h15 hq e17 => ?_) (fun _ _ q _ => q))
    replace hq := hq e17
    refine x_l2i dX12_make_29 ?_
    refine x_istore_n (lv' := [(3, .int (Int64.toInt32 x16)), (0, rv x0), (1, .int x1), (2, .int x2)]) dX12_make_30 (by decide) rfl ?_
    refine x_aload_n 1 dX12_make_31 rfl ?_
    have t18 : tg h15 x0 = 13 := e17.tg t7 (by decide)
    refine x_get (v := .int (fI h15 x0 3153)) fdX12_1436 dX12_make_32 t18 rfl ?_
    refine x_iload_n 0 dX12_make_35 rfl ?_
    refine x_iadd dX12_make_36 ?_
    refine x_sipush (v := 10000) dX12_make_37 (by decide) ?_
    refine x_icmp_le (tgt := 51) dX12_make_40 (by decide) (fun c19 => ?_) (fun c19 => ?_)
    · replace hq := hq.1 c19
      refine x_aload_n 1 dX12_make_51 rfl ?_
      refine x_dup dX12_make_52 (rv_cat _) ?_
      refine x_get (v := .int (fI h15 x0 3156)) fdX12_1439 dX12_make_53 t18 rfl ?_
      refine x_iconst (v := 1) dX12_make_56 (by decide) ?_
      refine x_iadd dX12_make_57 ?_
      obtain ⟨h20, e21⟩ : ∃ y, y = sI h15 x0 3156 ((fI h15 x0 3156) + 1) := ⟨_, rfl⟩
      replace hq := hq h20 e21
      refine x_putI fdX12_1439 xty_I1 dX12_make_58 t18 (Or.inl (by rw [t18]; rfl)) xnI rfl e21 ?_
      refine x_aload_n 1 dX12_make_61 rfl ?_
      refine x_dup dX12_make_62 (rv_cat _) ?_
      have t22 : tg h20 x0 = 13 := by rw [e21]; exact t18
      refine x_get (v := .int (fI h20 x0 3157)) fdX12_1433 dX12_make_63 t22 rfl ?_
      refine x_iconst (v := 1) dX12_make_66 (by decide) ?_
      refine x_iadd dX12_make_67 ?_
      obtain ⟨h23, e24⟩ : ∃ y, y = sI h20 x0 3157 ((fI h20 x0 3157) + 1) := ⟨_, rfl⟩
      replace hq := hq h23 e24
      refine x_putI fdX12_1433 xty_I1 dX12_make_68 t22 (Or.inl (by rw [t22]; rfl)) xnI rfl e24 ?_
      refine x_aload_n 1 dX12_make_71 rfl ?_
      have t25 : tg h23 x0 = 13 := by rw [e24]; exact t22
      refine x_get (v := rv (fR h23 x0 3154)) fdX12_173 dX12_make_72 t25 rfl ?_
      refine x_aload_n 1 dX12_make_75 rfl ?_
      refine x_get (v := .int (fI h23 x0 3156)) fdX12_1439 dX12_make_76 t25 rfl ?_
      refine x_sipush (v := 20000) dX12_make_79 (by decide) ?_
      refine x_aload_n 1 dX12_make_82 rfl ?_
      refine x_get (v := .int (fI h23 x0 3153)) fdX12_1436 dX12_make_83 t25 rfl ?_
      refine x_iadd dX12_make_86 ?_
      obtain ⟨g26, hq⟩ := hq
      obtain ⟨i27, hq⟩ := hq
      obtain ⟨h28, e29⟩ : ∃ y, y = tI h23 (fR h23 x0 3154) (Int32.toNatClampNeg (fI h23 x0 3156)) (20000 + (fI h23 x0 3153)) := ⟨_, rfl⟩
      replace hq := hq h28 e29
      refine x_iast' g26 i27 dX12_make_87 e29 ?_
      refine x_aload_n 1 dX12_make_88 rfl ?_
      have t30 : tg h28 x0 = 13 := by rw [e29]; exact t25
      refine x_get (v := rv (fR h28 x0 3155)) fdX12_176 dX12_make_89 t30 rfl ?_
      refine x_aload_n 1 dX12_make_92 rfl ?_
      refine x_get (v := .int (fI h28 x0 3156)) fdX12_1439 dX12_make_93 t30 rfl ?_
      refine x_iconst (v := 0) dX12_make_96 (by decide) ?_
      obtain ⟨g31, hq⟩ := hq
      obtain ⟨i32, hq⟩ := hq
      obtain ⟨h33, e34⟩ : ∃ y, y = tI h28 (fR h28 x0 3155) (Int32.toNatClampNeg (fI h28 x0 3156)) (vp_nar .boolean 0) := ⟨_, rfl⟩
      replace hq := hq h33 e34
      refine x_zast' g31 i32 dX12_make_97 e34 ?_
      refine x_aload_n 1 dX12_make_98 rfl ?_
      refine x_sipush (v := 20000) dX12_make_99 (by decide) ?_
      refine x_aload_n 1 dX12_make_102 rfl ?_
      have t35 : tg h33 x0 = 13 := by rw [e34]; exact t30
      refine x_get (v := .int (fI h33 x0 3153)) fdX12_1436 dX12_make_103 t35 rfl ?_
      refine x_iadd dX12_make_106 ?_
      refine x_sipush (v := 20000) dX12_make_107 (by decide) ?_
      refine x_aload_n 1 dX12_make_110 rfl ?_
      refine x_get (v := .int (fI h33 x0 3153)) fdX12_1436 dX12_make_111 t35 rfl ?_
      refine x_iadd dX12_make_114 ?_
      refine x_iload_n 0 dX12_make_115 rfl ?_
      refine x_iadd dX12_make_116 ?_
      obtain ⟨g36, g37, hq⟩ := hq
      refine x_callV (Yc := YX12_blank) (as := [.int (20000 + (fI h33 x0 3153)), .int ((20000 + (fI h33 x0 3153)) + (Int64.toInt32 x16))]) (st := []) q4494 mvX12_blank t35 rfl dX12_make_117 (xle (xal1 (rv_cat _) (xal1 rfl (xal1 rfl xal0))) (by decide)) (xfr g36) (xlo xsw0 (by decide) g37) (xKv hq (fun h38 hq e40 => ?_) (fun _ _ q _ => q))
      replace hq := hq e40
      refine x_aload_n 1 dX12_make_120 rfl ?_
      refine x_dup dX12_make_121 (rv_cat _) ?_
      have t41 : tg h38 x0 = 13 := e40.tg t35 (by decide)
      refine x_get (v := .int (fI h38 x0 3153)) fdX12_1436 dX12_make_122 t41 rfl ?_
      refine x_iload_n 0 dX12_make_125 rfl ?_
      refine x_iadd dX12_make_126 ?_
      obtain ⟨h42, e43⟩ : ∃ y, y = sI h38 x0 3153 ((fI h38 x0 3153) + (Int64.toInt32 x16)) := ⟨_, rfl⟩
      replace hq := hq h42 e43
      refine x_putI fdX12_1436 xty_I1 dX12_make_127 t41 (Or.inl (by rw [t41]; rfl)) xnI rfl e43 ?_
      refine x_aload_n 1 dX12_make_130 rfl ?_
      have t44 : tg h42 x0 = 13 := by rw [e43]; exact t41
      refine x_get (v := rv (fR h42 x0 3150)) fdX12_169 dX12_make_131 t44 rfl ?_
      refine x_aload_n 1 dX12_make_134 rfl ?_
      refine x_get (v := .int (fI h42 x0 3181)) fdX12_1236 dX12_make_135 t44 rfl ?_
      refine x_iconst (v := 1) dX12_make_138 (by decide) ?_
      obtain ⟨g45, hq⟩ := hq
      obtain ⟨i46, hq⟩ := hq
      obtain ⟨h47, e48⟩ : ∃ y, y = tI h42 (fR h42 x0 3150) (Int32.toNatClampNeg (fI h42 x0 3181)) (vp_nar .boolean 1) := ⟨_, rfl⟩
      replace hq := hq h47 e48
      refine x_zast' g45 i46 dX12_make_139 e48 ?_
      refine x_aload_n 1 dX12_make_140 rfl ?_
      have t49 : tg h47 x0 = 13 := by rw [e48]; exact t44
      refine x_get (v := rv (fR h47 x0 3147)) fdX12_159 dX12_make_141 t49 rfl ?_
      refine x_aload_n 1 dX12_make_144 rfl ?_
      refine x_get (v := .int (fI h47 x0 3181)) fdX12_1236 dX12_make_145 t49 rfl ?_
      refine x_aload_n 1 dX12_make_148 rfl ?_
      refine x_get (v := .int (fI h47 x0 3156)) fdX12_1439 dX12_make_149 t49 rfl ?_
      refine x_i2l dX12_make_152 ?_
      obtain ⟨g50, hq⟩ := hq
      obtain ⟨i51, hq⟩ := hq
      obtain ⟨h52, e53⟩ : ∃ y, y = tJ h47 (fR h47 x0 3147) (Int32.toNatClampNeg (fI h47 x0 3181)) (Int32.toInt64 (fI h47 x0 3156)) := ⟨_, rfl⟩
      replace hq := hq h52 e53
      refine x_last' g50 i51 dX12_make_153 e53 ?_
      exact x_vret rfl dX12_make_154 hq
    · replace hq := hq.2 c19
      refine x_aload_n 1 dX12_make_43 rfl ?_
      refine x_bipush (v := 14) dX12_make_44 (by decide) ?_
      refine x_iload_n 3 dX12_make_46 rfl ?_
      obtain ⟨g54, g55, hq⟩ := hq
      refine x_callV (Yc := YX12_error) (as := [.int 14, .int x2]) (st := []) q4490 mvX12_error t18 rfl dX12_make_47 (xle (xal1 (rv_cat _) (xal1 rfl (xal1 rfl xal0))) (by decide)) (xfr g54) (xlo xsw0 (by decide) g55) (xKv hq (fun h56 hq e58 => ?_) (fun _ _ q _ => q))
      replace hq := hq e58
      exact x_vret rfl dX12_make_50 hq
  · replace hq := hq.2 c8
    exact x_vret rfl dX12_make_12 hq
theorem rX12_make {G : xG} {fr lo : Nat} {x0 : Nat} {x1 : Int32} {x2 : Int32} {h : xH} {Q : Outcome → xH → Prop} (hq : bX12_make G fr lo x0 x1 x2 h Q) : xR G YX12_make fr lo [rv x0, .int x1, .int x2] h Q := by
  show xP _ _ _ _ _ (lv_args 0 _) _ _ _
  rw [show lv_args 0 [rv x0, .int x1, .int x2] = [(0, rv x0), (1, .int x1), (2, .int x2)] from (xla1 (rv_cat _) (xla1 rfl (xla1 rfl xla0)))]
  exact uX12_make hq
set_option maxRecDepth 100000 in
theorem dX12_where_0 : decode cX12_where 0 = .ok (.aload_n 0, 1) := by decide +kernel
set_option maxRecDepth 100000 in
theorem dX12_where_1 : decode cX12_where 1 = .ok (.iconst 0, 1) := by decide +kernel
set_option maxRecDepth 100000 in
theorem dX12_where_2 : decode cX12_where 2 = .ok (.putfield 250, 3) := by decide +kernel
set_option maxRecDepth 100000 in
theorem dX12_where_5 : decode cX12_where 5 = .ok (.aload_n 0, 1) := by decide +kernel
set_option maxRecDepth 100000 in
theorem dX12_where_6 : decode cX12_where 6 = .ok (.getfield 1095, 3) := by decide +kernel
set_option maxRecDepth 100000 in
theorem dX12_where_9 : decode cX12_where 9 = .ok (.ifCond .eq 17, 3) := by decide +kernel
set_option maxRecDepth 100000 in
theorem dX12_where_12 : decode cX12_where 12 = .ok (.aload_n 0, 1) := by decide +kernel
set_option maxRecDepth 100000 in
theorem dX12_where_13 : decode cX12_where 13 = .ok (.getfield 1124, 3) := by decide +kernel
set_option maxRecDepth 100000 in
theorem dX12_where_16 : decode cX12_where 16 = .ok (.ifCond .eq 10, 3) := by decide +kernel
set_option maxRecDepth 100000 in
theorem dX12_where_19 : decode cX12_where 19 = .ok (.aload_n 0, 1) := by decide +kernel
set_option maxRecDepth 100000 in
theorem dX12_where_20 : decode cX12_where 20 = .ok (.getfield 1127, 3) := by decide +kernel
set_option maxRecDepth 100000 in
theorem dX12_where_23 : decode cX12_where 23 = .ok (.goto 4, 3) := by decide +kernel
set_option maxRecDepth 100000 in
theorem dX12_where_26 : decode cX12_where 26 = .ok (.iconst (-1), 1) := by decide +kernel
set_option maxRecDepth 100000 in
theorem dX12_where_27 : decode cX12_where 27 = .ok (.ireturn, 1) := by decide +kernel
set_option maxRecDepth 100000 in
def bX12_where_27 (G : xG) (fr lo : Nat) (s0 : Int32) (h : xH) (Q : Outcome → xH → Prop) : Prop := Q (.returned (some (.int s0))) h
set_option maxRecDepth 100000 in
theorem uX12_where_27 {G : xG} {fr lo : Nat} {s0 : Int32} {h : xH} {Q : Outcome → xH → Prop} (hq : bX12_where_27 G fr lo s0 h Q) : xP G YX12_where fr lo 27 [] [.int s0] h Q := by
  unfold bX12_where_27 at hq
  exact x_iret rfl rfl dX12_where_27 hq
set_option maxRecDepth 100000 in
def bX12_where_26 (G : xG) (fr lo : Nat) (h : xH) (Q : Outcome → xH → Prop) : Prop := bX12_where_27 G fr lo (-1) h Q
set_option maxRecDepth 100000 in
theorem uX12_where_26 {G : xG} {fr lo : Nat} {h : xH} {Q : Outcome → xH → Prop} (hq : bX12_where_26 G fr lo h Q) : xP G YX12_where fr lo 26 [] [] h Q := by
  unfold bX12_where_26 at hq
  refine x_iconst (v := (-1)) dX12_where_26 (by decide) ?_
  exact uX12_where_27 hq
set_option maxRecDepth 100000 in
def bX12_where (G : xG) (fr lo : Nat) (x0 : Nat) (h : xH) (Q : Outcome → xH → Prop) : Prop := tg h x0 = 13 ∧ (∀ h2 : xH, h2 = sI h x0 3072 0 → (((fI h2 x0 3143) = 0 → bX12_where_26 G fr lo h2 Q) ∧ (¬ (fI h2 x0 3143) = 0 → (((fI h2 x0 3171) = 0 → bX12_where_26 G fr lo h2 Q) ∧ (¬ (fI h2 x0 3171) = 0 → bX12_where_27 G fr lo (fI h2 x0 3172) h2 Q)))))
set_option maxRecDepth 100000 in
theorem uX12_where {G : xG} {fr lo : Nat} {x0 : Nat} {h : xH} {Q : Outcome → xH → Prop} (hq : bX12_where G fr lo x0 h Q) : xP G YX12_where fr lo 0 [(0, rv x0)] [] h Q := by
  unfold bX12_where at hq
  refine x_aload_n 0 dX12_where_0 rfl ?_
  refine x_iconst (v := 0) dX12_where_1 (by decide) ?_
  obtain ⟨g1, hq⟩ := hq
  obtain ⟨h2, e3⟩ : ∃ y, y = sI h x0 3072 0 := ⟨_, rfl⟩
  replace hq := hq h2 e3
  refine x_putI fdX12_250 xty_I1 dX12_where_2 g1 (Or.inl (by rw [g1]; rfl)) xnI rfl e3 ?_
  refine x_aload_n 0 dX12_where_5 rfl ?_
  have t4 : tg h2 x0 = 13 := by rw [e3]; exact g1
  refine x_get (v := .int (fI h2 x0 3143)) fdX12_1095 dX12_where_6 t4 rfl ?_
  refine x_if_eq (tgt := 26) dX12_where_9 (by decide) (fun c5 => ?_) (fun c5 => ?_)
  · replace hq := hq.1 c5
    refine xP.pick (lv' := []) [] rfl ?_
    exact uX12_where_26 hq
  · replace hq := hq.2 c5
    refine x_aload_n 0 dX12_where_12 rfl ?_
    refine x_get (v := .int (fI h2 x0 3171)) fdX12_1124 dX12_where_13 t4 rfl ?_
    refine x_if_eq (tgt := 26) dX12_where_16 (by decide) (fun c6 => ?_) (fun c6 => ?_)
    · replace hq := hq.1 c6
      refine xP.pick (lv' := []) [] rfl ?_
      exact uX12_where_26 hq
    · replace hq := hq.2 c6
      refine x_aload_n 0 dX12_where_19 rfl ?_
      refine x_get (v := .int (fI h2 x0 3172)) fdX12_1127 dX12_where_20 t4 rfl ?_
      refine x_goto (tgt := 27) dX12_where_23 (by decide) ?_
      refine xP.pick (lv' := []) [] rfl ?_
      exact uX12_where_27 hq
theorem rX12_where {G : xG} {fr lo : Nat} {x0 : Nat} {h : xH} {Q : Outcome → xH → Prop} (hq : bX12_where G fr lo x0 h Q) : xR G YX12_where fr lo [rv x0] h Q := by
  show xP _ _ _ _ _ (lv_args 0 _) _ _ _
  rw [show lv_args 0 [rv x0] = [(0, rv x0)] from (xla1 (rv_cat _) xla0)]
  exact uX12_where hq
set_option maxRecDepth 100000 in
theorem dX12_steps_0 : decode cX12_steps 0 = .ok (.aload_n 0, 1) := by decide +kernel
set_option maxRecDepth 100000 in
theorem dX12_steps_1 : decode cX12_steps 1 = .ok (.iconst 0, 1) := by decide +kernel
set_option maxRecDepth 100000 in
theorem dX12_steps_2 : decode cX12_steps 2 = .ok (.putfield 250, 3) := by decide +kernel
set_option maxRecDepth 100000 in
theorem dX12_steps_5 : decode cX12_steps 5 = .ok (.aload_n 0, 1) := by decide +kernel
set_option maxRecDepth 100000 in
theorem dX12_steps_6 : decode cX12_steps 6 = .ok (.getfield 1095, 3) := by decide +kernel
set_option maxRecDepth 100000 in
theorem dX12_steps_9 : decode cX12_steps 9 = .ok (.ifCond .eq 10, 3) := by decide +kernel
set_option maxRecDepth 100000 in
theorem dX12_steps_12 : decode cX12_steps 12 = .ok (.aload_n 0, 1) := by decide +kernel
set_option maxRecDepth 100000 in
theorem dX12_steps_13 : decode cX12_steps 13 = .ok (.getfield 1226, 3) := by decide +kernel
set_option maxRecDepth 100000 in
theorem dX12_steps_16 : decode cX12_steps 16 = .ok (.goto 4, 3) := by decide +kernel
set_option maxRecDepth 100000 in
theorem dX12_steps_19 : decode cX12_steps 19 = .ok (.iconst (-1), 1) := by decide +kernel
set_option maxRecDepth 100000 in
theorem dX12_steps_20 : decode cX12_steps 20 = .ok (.ireturn, 1) := by decide +kernel
set_option maxRecDepth 100000 in
def bX12_steps_20 (G : xG) (fr lo : Nat) (s0 : Int32) (h : xH) (Q : Outcome → xH → Prop) : Prop := Q (.returned (some (.int s0))) h
set_option maxRecDepth 100000 in
theorem uX12_steps_20 {G : xG} {fr lo : Nat} {s0 : Int32} {h : xH} {Q : Outcome → xH → Prop} (hq : bX12_steps_20 G fr lo s0 h Q) : xP G YX12_steps fr lo 20 [] [.int s0] h Q := by
  unfold bX12_steps_20 at hq
  exact x_iret rfl rfl dX12_steps_20 hq
set_option maxRecDepth 100000 in
def bX12_steps (G : xG) (fr lo : Nat) (x0 : Nat) (h : xH) (Q : Outcome → xH → Prop) : Prop := tg h x0 = 13 ∧ (∀ h2 : xH, h2 = sI h x0 3072 0 → (((fI h2 x0 3143) = 0 → bX12_steps_20 G fr lo (-1) h2 Q) ∧ (¬ (fI h2 x0 3143) = 0 → bX12_steps_20 G fr lo (fI h2 x0 3176) h2 Q)))
set_option maxRecDepth 100000 in
theorem uX12_steps {G : xG} {fr lo : Nat} {x0 : Nat} {h : xH} {Q : Outcome → xH → Prop} (hq : bX12_steps G fr lo x0 h Q) : xP G YX12_steps fr lo 0 [(0, rv x0)] [] h Q := by
  unfold bX12_steps at hq
  refine x_aload_n 0 dX12_steps_0 rfl ?_
  refine x_iconst (v := 0) dX12_steps_1 (by decide) ?_
  obtain ⟨g1, hq⟩ := hq
  obtain ⟨h2, e3⟩ : ∃ y, y = sI h x0 3072 0 := ⟨_, rfl⟩
  replace hq := hq h2 e3
  refine x_putI fdX12_250 xty_I1 dX12_steps_2 g1 (Or.inl (by rw [g1]; rfl)) xnI rfl e3 ?_
  refine x_aload_n 0 dX12_steps_5 rfl ?_
  have t4 : tg h2 x0 = 13 := by rw [e3]; exact g1
  refine x_get (v := .int (fI h2 x0 3143)) fdX12_1095 dX12_steps_6 t4 rfl ?_
  refine x_if_eq (tgt := 19) dX12_steps_9 (by decide) (fun c5 => ?_) (fun c5 => ?_)
  · replace hq := hq.1 c5
    refine x_iconst (v := (-1)) dX12_steps_19 (by decide) ?_
    refine xP.pick (lv' := []) [] rfl ?_
    exact uX12_steps_20 hq
  · replace hq := hq.2 c5
    refine x_aload_n 0 dX12_steps_12 rfl ?_
    refine x_get (v := .int (fI h2 x0 3176)) fdX12_1226 dX12_steps_13 t4 rfl ?_
    refine x_goto (tgt := 20) dX12_steps_16 (by decide) ?_
    refine xP.pick (lv' := []) [] rfl ?_
    exact uX12_steps_20 hq
theorem rX12_steps {G : xG} {fr lo : Nat} {x0 : Nat} {h : xH} {Q : Outcome → xH → Prop} (hq : bX12_steps G fr lo x0 h Q) : xR G YX12_steps fr lo [rv x0] h Q := by
  show xP _ _ _ _ _ (lv_args 0 _) _ _ _
  rw [show lv_args 0 [rv x0] = [(0, rv x0)] from (xla1 (rv_cat _) xla0)]
  exact uX12_steps hq
set_option maxRecDepth 100000 in
theorem dX12_file_0 : decode cX12_file 0 = .ok (.aload_n 0, 1) := by decide +kernel
set_option maxRecDepth 100000 in
theorem dX12_file_1 : decode cX12_file 1 = .ok (.iconst 0, 1) := by decide +kernel
set_option maxRecDepth 100000 in
theorem dX12_file_2 : decode cX12_file 2 = .ok (.putfield 250, 3) := by decide +kernel
set_option maxRecDepth 100000 in
theorem dX12_file_5 : decode cX12_file 5 = .ok (.aload_n 0, 1) := by decide +kernel
set_option maxRecDepth 100000 in
theorem dX12_file_6 : decode cX12_file 6 = .ok (.getfield 1095, 3) := by decide +kernel
set_option maxRecDepth 100000 in
theorem dX12_file_9 : decode cX12_file 9 = .ok (.ifCond .eq 23, 3) := by decide +kernel
set_option maxRecDepth 100000 in
theorem dX12_file_12 : decode cX12_file 12 = .ok (.iload_n 1, 1) := by decide +kernel
set_option maxRecDepth 100000 in
theorem dX12_file_13 : decode cX12_file 13 = .ok (.ifCond .lt 19, 3) := by decide +kernel
set_option maxRecDepth 100000 in
theorem dX12_file_16 : decode cX12_file 16 = .ok (.iload_n 1, 1) := by decide +kernel
set_option maxRecDepth 100000 in
theorem dX12_file_17 : decode cX12_file 17 = .ok (.aload_n 0, 1) := by decide +kernel
set_option maxRecDepth 100000 in
theorem dX12_file_18 : decode cX12_file 18 = .ok (.getfield 147, 3) := by decide +kernel
set_option maxRecDepth 100000 in
theorem dX12_file_21 : decode cX12_file 21 = .ok (.invokevirtual 554, 3) := by decide +kernel
set_option maxRecDepth 100000 in
theorem dX12_file_24 : decode cX12_file 24 = .ok (.if_icmp .ge 8, 3) := by decide +kernel
set_option maxRecDepth 100000 in
theorem dX12_file_27 : decode cX12_file 27 = .ok (.iload_n 2, 1) := by decide +kernel
set_option maxRecDepth 100000 in
theorem dX12_file_28 : decode cX12_file 28 = .ok (.iconst (-1), 1) := by decide +kernel
set_option maxRecDepth 100000 in
theorem dX12_file_29 : decode cX12_file 29 = .ok (.if_icmp .ge 5, 3) := by decide +kernel
set_option maxRecDepth 100000 in
theorem dX12_file_32 : decode cX12_file 32 = .ok (.iconst (-1), 1) := by decide +kernel
set_option maxRecDepth 100000 in
theorem dX12_file_33 : decode cX12_file 33 = .ok (.ireturn, 1) := by decide +kernel
set_option maxRecDepth 100000 in
theorem dX12_file_34 : decode cX12_file 34 = .ok (.aload_n 0, 1) := by decide +kernel
set_option maxRecDepth 100000 in
theorem dX12_file_35 : decode cX12_file 35 = .ok (.getfield 1497, 3) := by decide +kernel
set_option maxRecDepth 100000 in
theorem dX12_file_38 : decode cX12_file 38 = .ok (.ifCond .ne 14, 3) := by decide +kernel
set_option maxRecDepth 100000 in
theorem dX12_file_41 : decode cX12_file 41 = .ok (.iload_n 2, 1) := by decide +kernel
set_option maxRecDepth 100000 in
theorem dX12_file_42 : decode cX12_file 42 = .ok (.iconst (-1), 1) := by decide +kernel
set_option maxRecDepth 100000 in
theorem dX12_file_43 : decode cX12_file 43 = .ok (.if_icmp .ne 7, 3) := by decide +kernel
set_option maxRecDepth 100000 in
theorem dX12_file_46 : decode cX12_file 46 = .ok (.iconst 0, 1) := by decide +kernel
set_option maxRecDepth 100000 in
theorem dX12_file_47 : decode cX12_file 47 = .ok (.goto 4, 3) := by decide +kernel
set_option maxRecDepth 100000 in
theorem dX12_file_50 : decode cX12_file 50 = .ok (.iconst (-1), 1) := by decide +kernel
set_option maxRecDepth 100000 in
theorem dX12_file_51 : decode cX12_file 51 = .ok (.ireturn, 1) := by decide +kernel
set_option maxRecDepth 100000 in
theorem dX12_file_52 : decode cX12_file 52 = .ok (.aload_n 0, 1) := by decide +kernel
set_option maxRecDepth 100000 in
theorem dX12_file_53 : decode cX12_file 53 = .ok (.getfield 247, 3) := by decide +kernel
set_option maxRecDepth 100000 in
theorem dX12_file_56 : decode cX12_file 56 = .ok (.iload_n 1, 1) := by decide +kernel
set_option maxRecDepth 100000 in
theorem dX12_file_57 : decode cX12_file 57 = .ok (.iaload, 1) := by decide +kernel
set_option maxRecDepth 100000 in
theorem dX12_file_58 : decode cX12_file 58 = .ok (.istore_n 3, 1) := by decide +kernel
set_option maxRecDepth 100000 in
theorem dX12_file_59 : decode cX12_file 59 = .ok (.iload_n 2, 1) := by decide +kernel
set_option maxRecDepth 100000 in
theorem dX12_file_60 : decode cX12_file 60 = .ok (.iconst (-1), 1) := by decide +kernel
set_option maxRecDepth 100000 in
theorem dX12_file_61 : decode cX12_file 61 = .ok (.if_icmp .ne 10, 3) := by decide +kernel
set_option maxRecDepth 100000 in
theorem dX12_file_64 : decode cX12_file 64 = .ok (.aload_n 0, 1) := by decide +kernel
set_option maxRecDepth 100000 in
theorem dX12_file_65 : decode cX12_file 65 = .ok (.getfield 216, 3) := by decide +kernel
set_option maxRecDepth 100000 in
theorem dX12_file_68 : decode cX12_file 68 = .ok (.iload_n 3, 1) := by decide +kernel
set_option maxRecDepth 100000 in
theorem dX12_file_69 : decode cX12_file 69 = .ok (.iaload, 1) := by decide +kernel
set_option maxRecDepth 100000 in
theorem dX12_file_70 : decode cX12_file 70 = .ok (.ireturn, 1) := by decide +kernel
set_option maxRecDepth 100000 in
theorem dX12_file_71 : decode cX12_file 71 = .ok (.aload_n 0, 1) := by decide +kernel
set_option maxRecDepth 100000 in
theorem dX12_file_72 : decode cX12_file 72 = .ok (.getfield 207, 3) := by decide +kernel
set_option maxRecDepth 100000 in
theorem dX12_file_75 : decode cX12_file 75 = .ok (.iload_n 3, 1) := by decide +kernel
set_option maxRecDepth 100000 in
theorem dX12_file_76 : decode cX12_file 76 = .ok (.iaload, 1) := by decide +kernel
set_option maxRecDepth 100000 in
theorem dX12_file_77 : decode cX12_file 77 = .ok (.istore 4, 2) := by decide +kernel
set_option maxRecDepth 100000 in
theorem dX12_file_79 : decode cX12_file 79 = .ok (.iconst 0, 1) := by decide +kernel
set_option maxRecDepth 100000 in
theorem dX12_file_80 : decode cX12_file 80 = .ok (.istore 5, 2) := by decide +kernel
set_option maxRecDepth 100000 in
theorem dX12_file_82 : decode cX12_file 82 = .ok (.iload 5, 2) := by decide +kernel
set_option maxRecDepth 100000 in
theorem dX12_file_84 : decode cX12_file 84 = .ok (.iload_n 2, 1) := by decide +kernel
set_option maxRecDepth 100000 in
theorem dX12_file_85 : decode cX12_file 85 = .ok (.if_icmp .ge 24, 3) := by decide +kernel
set_option maxRecDepth 100000 in
theorem dX12_file_88 : decode cX12_file 88 = .ok (.iload 4, 2) := by decide +kernel
set_option maxRecDepth 100000 in
theorem dX12_file_90 : decode cX12_file 90 = .ok (.iconst (-1), 1) := by decide +kernel
set_option maxRecDepth 100000 in
theorem dX12_file_91 : decode cX12_file 91 = .ok (.if_icmp .eq 18, 3) := by decide +kernel
set_option maxRecDepth 100000 in
theorem dX12_file_94 : decode cX12_file 94 = .ok (.aload_n 0, 1) := by decide +kernel
set_option maxRecDepth 100000 in
theorem dX12_file_95 : decode cX12_file 95 = .ok (.getfield 241, 3) := by decide +kernel
set_option maxRecDepth 100000 in
theorem dX12_file_98 : decode cX12_file 98 = .ok (.iload 4, 2) := by decide +kernel
set_option maxRecDepth 100000 in
theorem dX12_file_100 : decode cX12_file 100 = .ok (.iaload, 1) := by decide +kernel
set_option maxRecDepth 100000 in
theorem dX12_file_101 : decode cX12_file 101 = .ok (.istore 4, 2) := by decide +kernel
set_option maxRecDepth 100000 in
theorem dX12_file_103 : decode cX12_file 103 = .ok (.iinc 5 1, 3) := by decide +kernel
set_option maxRecDepth 100000 in
theorem dX12_file_106 : decode cX12_file 106 = .ok (.goto (-24), 3) := by decide +kernel
set_option maxRecDepth 100000 in
theorem dX12_file_109 : decode cX12_file 109 = .ok (.iload 4, 2) := by decide +kernel
set_option maxRecDepth 100000 in
theorem dX12_file_111 : decode cX12_file 111 = .ok (.iconst (-1), 1) := by decide +kernel
set_option maxRecDepth 100000 in
theorem dX12_file_112 : decode cX12_file 112 = .ok (.if_icmp .ne 7, 3) := by decide +kernel
set_option maxRecDepth 100000 in
theorem dX12_file_115 : decode cX12_file 115 = .ok (.iconst (-1), 1) := by decide +kernel
set_option maxRecDepth 100000 in
theorem dX12_file_116 : decode cX12_file 116 = .ok (.goto 11, 3) := by decide +kernel
set_option maxRecDepth 100000 in
theorem dX12_file_119 : decode cX12_file 119 = .ok (.aload_n 0, 1) := by decide +kernel
set_option maxRecDepth 100000 in
theorem dX12_file_120 : decode cX12_file 120 = .ok (.getfield 229, 3) := by decide +kernel
set_option maxRecDepth 100000 in
theorem dX12_file_123 : decode cX12_file 123 = .ok (.iload 4, 2) := by decide +kernel
set_option maxRecDepth 100000 in
theorem dX12_file_125 : decode cX12_file 125 = .ok (.laload, 1) := by decide +kernel
set_option maxRecDepth 100000 in
theorem dX12_file_126 : decode cX12_file 126 = .ok (.l2i, 1) := by decide +kernel
set_option maxRecDepth 100000 in
theorem dX12_file_127 : decode cX12_file 127 = .ok (.ireturn, 1) := by decide +kernel
def lX12_file_82 (G : xG) (fr lo : Nat) (x0 : Nat) (x2 : Int32) (x4 : Int32) (x5 : Int32) (h : xH) (Q : Outcome → xH → Prop) : Prop := xP G YX12_file fr lo 82 [(0, rv x0), (2, .int x2), (4, .int x4), (5, .int x5)] [] h Q
set_option maxRecDepth 100000 in
def bX12_file_127 (G : xG) (fr lo : Nat) (s0 : Int32) (h : xH) (Q : Outcome → xH → Prop) : Prop := Q (.returned (some (.int s0))) h
set_option maxRecDepth 100000 in
theorem uX12_file_127 {G : xG} {fr lo : Nat} {s0 : Int32} {h : xH} {Q : Outcome → xH → Prop} (hq : bX12_file_127 G fr lo s0 h Q) : xP G YX12_file fr lo 127 [] [.int s0] h Q := by
  unfold bX12_file_127 at hq
  exact x_iret rfl rfl dX12_file_127 hq
set_option maxRecDepth 100000 in
def bX12_file_109 (G : xG) (fr lo : Nat) (x0 : Nat) (x4 : Int32) (h : xH) (Q : Outcome → xH → Prop) : Prop := ((¬ x4 = (-1) → tg h x0 = 13 ∧ tg h (fR h x0 3192) = 101 ∧ vp_in x4 (ln h (fR h x0 3192)) ∧ bX12_file_127 G fr lo (Int64.toInt32 (aJ h (fR h x0 3192) (Int32.toNatClampNeg x4))) h Q) ∧ (x4 = (-1) → bX12_file_127 G fr lo (-1) h Q))
set_option maxRecDepth 100000 in
theorem uX12_file_109 {G : xG} {fr lo : Nat} {x0 : Nat} {x4 : Int32} {h : xH} {Q : Outcome → xH → Prop} (hq : bX12_file_109 G fr lo x0 x4 h Q) : xP G YX12_file fr lo 109 [(0, rv x0), (4, .int x4)] [] h Q := by
  unfold bX12_file_109 at hq
  refine x_iload 1 dX12_file_109 rfl ?_
  refine x_iconst (v := (-1)) dX12_file_111 (by decide) ?_
  refine x_icmp_ne (tgt := 119) dX12_file_112 (by decide) (fun c1 => ?_) (fun c1 => ?_)
  · replace hq := hq.1 c1
    refine x_aload_n 0 dX12_file_119 rfl ?_
    obtain ⟨g2, hq⟩ := hq
    refine x_get (v := rv (fR h x0 3192)) fdX12_229 dX12_file_120 g2 rfl ?_
    refine x_iload 1 dX12_file_123 rfl ?_
    obtain ⟨g3, hq⟩ := hq
    obtain ⟨i4, hq⟩ := hq
    refine x_lald g3 i4 dX12_file_125 ?_
    refine x_l2i dX12_file_126 ?_
    refine xP.pick (lv' := []) [] rfl ?_
    exact uX12_file_127 hq
  · replace hq := hq.2 c1
    refine x_iconst (v := (-1)) dX12_file_115 (by decide) ?_
    refine x_goto (tgt := 127) dX12_file_116 (by decide) ?_
    refine xP.pick (lv' := []) [] rfl ?_
    exact uX12_file_127 hq
set_option maxRecDepth 100000 in
def bX12_file_82 (G : xG) (fr lo : Nat) (x0 : Nat) (x2 : Int32) (x4 : Int32) (x5 : Int32) (h : xH) (Q : Outcome → xH → Prop) : Prop := ((x2 ≤ x5 → bX12_file_109 G fr lo x0 x4 h Q) ∧ (¬ x2 ≤ x5 → ((x4 = (-1) → bX12_file_109 G fr lo x0 x4 h Q) ∧ (¬ x4 = (-1) → tg h x0 = 13 ∧ tg h (fR h x0 3196) = 100 ∧ vp_in x4 (ln h (fR h x0 3196)) ∧ lX12_file_82 G fr lo x0 x2 (aI h (fR h x0 3196) (Int32.toNatClampNeg x4)) (x5 + 1) h Q))))
set_option maxRecDepth 100000 in
theorem uX12_file_82 {G : xG} {fr lo : Nat} {x0 : Nat} {x2 : Int32} {x4 : Int32} {x5 : Int32} {h : xH} {Q : Outcome → xH → Prop} (hq : bX12_file_82 G fr lo x0 x2 x4 x5 h Q) : xP G YX12_file fr lo 82 [(0, rv x0), (2, .int x2), (4, .int x4), (5, .int x5)] [] h Q := by
  unfold bX12_file_82 at hq
  refine x_iload 3 dX12_file_82 rfl ?_
  refine x_iload_n 1 dX12_file_84 rfl ?_
  refine x_icmp_ge (tgt := 109) dX12_file_85 (by decide) (fun c1 => ?_) (fun c1 => ?_)
  · replace hq := hq.1 c1
    refine xP.pick (lv' := [(0, rv x0), (4, .int x4)]) [0, 2] rfl ?_
    exact uX12_file_109 hq
  · replace hq := hq.2 c1
    refine x_iload 2 dX12_file_88 rfl ?_
    refine x_iconst (v := (-1)) dX12_file_90 (by decide) ?_
    refine x_icmp_eq (tgt := 109) dX12_file_91 (by decide) (fun c2 => ?_) (fun c2 => ?_)
    · replace hq := hq.1 c2
      refine xP.pick (lv' := [(0, rv x0), (4, .int x4)]) [0, 2] rfl ?_
      exact uX12_file_109 hq
    · replace hq := hq.2 c2
      refine x_aload_n 0 dX12_file_94 rfl ?_
      obtain ⟨g3, hq⟩ := hq
      refine x_get (v := rv (fR h x0 3196)) fdX12_241 dX12_file_95 g3 rfl ?_
      refine x_iload 2 dX12_file_98 rfl ?_
      obtain ⟨g4, hq⟩ := hq
      obtain ⟨i5, hq⟩ := hq
      refine x_iald 0 (Or.inl rfl) g4 i5 dX12_file_100 ?_
      refine x_istore (lv' := [(4, .int (aI h (fR h x0 3196) (Int32.toNatClampNeg x4))), (0, rv x0), (2, .int x2), (5, .int x5)]) dX12_file_101 (by decide) rfl ?_
      refine x_iinc (lv' := [(5, .int (x5 + 1)), (4, .int (aI h (fR h x0 3196) (Int32.toNatClampNeg x4))), (0, rv x0), (2, .int x2)]) 3 dX12_file_103 rfl (by decide) rfl ?_
      refine x_goto (tgt := 82) dX12_file_106 (by decide) ?_
      refine xP.pick (lv' := [(0, rv x0), (2, .int x2), (4, .int (aI h (fR h x0 3196) (Int32.toNatClampNeg x4))), (5, .int (x5 + 1))]) [2, 3, 1, 0] rfl ?_
      exact hq
set_option maxRecDepth 100000 in
def bX12_file_51 (G : xG) (fr lo : Nat) (s0 : Int32) (h : xH) (Q : Outcome → xH → Prop) : Prop := Q (.returned (some (.int s0))) h
set_option maxRecDepth 100000 in
theorem uX12_file_51 {G : xG} {fr lo : Nat} {s0 : Int32} {h : xH} {Q : Outcome → xH → Prop} (hq : bX12_file_51 G fr lo s0 h Q) : xP G YX12_file fr lo 51 [] [.int s0] h Q := by
  unfold bX12_file_51 at hq
  exact x_iret rfl rfl dX12_file_51 hq
set_option maxRecDepth 100000 in
def bX12_file_32 (G : xG) (fr lo : Nat) (h : xH) (Q : Outcome → xH → Prop) : Prop := Q (.returned (some (.int (-1)))) h
set_option maxRecDepth 100000 in
theorem uX12_file_32 {G : xG} {fr lo : Nat} {h : xH} {Q : Outcome → xH → Prop} (hq : bX12_file_32 G fr lo h Q) : xP G YX12_file fr lo 32 [] [] h Q := by
  unfold bX12_file_32 at hq
  refine x_iconst (v := (-1)) dX12_file_32 (by decide) ?_
  exact x_iret rfl rfl dX12_file_33 hq
set_option maxRecDepth 100000 in
def bX12_file (G : xG) (fr lo : Nat) (x0 : Nat) (x1 : Int32) (x2 : Int32) (h : xH) (Q : Outcome → xH → Prop) : Prop := tg h x0 = 13 ∧ (∀ h2 : xH, h2 = sI h x0 3072 0 → (((fI h2 x0 3143) = 0 → bX12_file_32 G fr lo h2 Q) ∧ (¬ (fI h2 x0 3143) = 0 → ((x1 < 0 → bX12_file_32 G fr lo h2 Q) ∧ (¬ x1 < 0 → tg h2 (fR h2 x0 3128) = 29 ∧ 1 ≤ fr ∧ 13 ≤ lo ∧ xRi G YJ2_size (fr - 1) (lo - 13) [rv (fR h2 x0 3128)] h2 (fun x11 h10 => xext h2 h10 → ((x11 ≤ x1 → bX12_file_32 G fr lo h10 Q) ∧ (¬ x11 ≤ x1 → (((-1) ≤ x2 → ((¬ (fI h10 x0 3201) = 0 → tg h10 (fR h10 x0 3202) = 100 ∧ vp_in x1 (ln h10 (fR h10 x0 3202)) ∧ ((¬ x2 = (-1) → tg h10 (fR h10 x0 3183) = 100 ∧ vp_in (aI h10 (fR h10 x0 3202) (Int32.toNatClampNeg x1)) (ln h10 (fR h10 x0 3183)) ∧ lX12_file_82 G fr lo x0 x2 (aI h10 (fR h10 x0 3183) (Int32.toNatClampNeg (aI h10 (fR h10 x0 3202) (Int32.toNatClampNeg x1)))) 0 h10 Q) ∧ (x2 = (-1) → tg h10 (fR h10 x0 3186) = 100 ∧ vp_in (aI h10 (fR h10 x0 3202) (Int32.toNatClampNeg x1)) (ln h10 (fR h10 x0 3186)) ∧ Q (.returned (some (.int (aI h10 (fR h10 x0 3186) (Int32.toNatClampNeg (aI h10 (fR h10 x0 3202) (Int32.toNatClampNeg x1))))))) h10))) ∧ ((fI h10 x0 3201) = 0 → ((¬ x2 = (-1) → bX12_file_51 G fr lo (-1) h10 Q) ∧ (x2 = (-1) → bX12_file_51 G fr lo 0 h10 Q))))) ∧ (¬ (-1) ≤ x2 → bX12_file_32 G fr lo h10 Q))))) (fun r h2 => Q (.threw r) h2))))))
set_option maxRecDepth 100000 in
theorem uX12_file {G : xG} {fr lo : Nat} {x0 : Nat} {x1 : Int32} {x2 : Int32} {h : xH} {Q : Outcome → xH → Prop} (hq : bX12_file G fr lo x0 x1 x2 h Q) : xP G YX12_file fr lo 0 [(0, rv x0), (1, .int x1), (2, .int x2)] [] h Q := by
  unfold bX12_file at hq
  refine x_aload_n 0 dX12_file_0 rfl ?_
  refine x_iconst (v := 0) dX12_file_1 (by decide) ?_
  obtain ⟨g1, hq⟩ := hq
  obtain ⟨h2, e3⟩ : ∃ y, y = sI h x0 3072 0 := ⟨_, rfl⟩
  replace hq := hq h2 e3
  refine x_putI fdX12_250 xty_I1 dX12_file_2 g1 (Or.inl (by rw [g1]; rfl)) xnI rfl e3 ?_
  refine x_aload_n 0 dX12_file_5 rfl ?_
  have t4 : tg h2 x0 = 13 := by rw [e3]; exact g1
  refine x_get (v := .int (fI h2 x0 3143)) fdX12_1095 dX12_file_6 t4 rfl ?_
  refine x_if_eq (tgt := 32) dX12_file_9 (by decide) (fun c5 => ?_) (fun c5 => ?_)
  · replace hq := hq.1 c5
    refine xP.pick (lv' := []) [] rfl ?_
    exact uX12_file_32 hq
  · replace hq := hq.2 c5
    refine x_iload_n 1 dX12_file_12 rfl ?_
    refine x_if_lt (tgt := 32) dX12_file_13 (by decide) (fun c6 => ?_) (fun c6 => ?_)
    · replace hq := hq.1 c6
      refine xP.pick (lv' := []) [] rfl ?_
      exact uX12_file_32 hq
    · replace hq := hq.2 c6
      refine x_iload_n 1 dX12_file_16 rfl ?_
      refine x_aload_n 0 dX12_file_17 rfl ?_
      refine x_get (v := rv (fR h2 x0 3128)) fdX12_147 dX12_file_18 t4 rfl ?_
      obtain ⟨g7, hq⟩ := hq
      obtain ⟨g8, g9, hq⟩ := hq
      refine x_callV (Yc := YJ2_size) (as := []) (st := [.int x1]) q4067 mvJ2_size g7 rfl dX12_file_21 (xle (xal1 (rv_cat _) xal0) (by decide)) (xfr g8) (xlo (xsw1 rfl xsw0) (by decide) g9) (xKi hq (fun x11 h10 hq e12 => ?_) (fun _ _ q _ => q))
      replace hq := hq e12
      refine x_icmp_ge (tgt := 32) dX12_file_24 (by decide) (fun c13 => ?_) (fun c13 => ?_)
      · replace hq := hq.1 c13
        refine xP.pick (lv' := []) [] rfl ?_
        exact uX12_file_32 hq
      · replace hq := hq.2 c13
        refine x_iload_n 2 dX12_file_27 rfl ?_
        refine x_iconst (v := (-1)) dX12_file_28 (by decide) ?_
        refine x_icmp_ge (tgt := 34) dX12_file_29 (by decide) (fun c14 => ?_) (fun c14 => ?_)
        · replace hq := hq.1 c14
          refine x_aload_n 0 dX12_file_34 rfl ?_
          have t15 : tg h10 x0 = 13 := e12.tg t4 (by decide)
          refine x_get (v := .int (fI h10 x0 3201)) fdX12_1497 dX12_file_35 t15 rfl ?_
          refine x_if_ne (tgt := 52) dX12_file_38 (by decide) (fun c16 => ?_) (fun c16 => ?_)
          · replace hq := hq.1 c16
            refine x_aload_n 0 dX12_file_52 rfl ?_
            refine x_get (v := rv (fR h10 x0 3202)) fdX12_247 dX12_file_53 t15 rfl ?_
            refine x_iload_n 1 dX12_file_56 rfl ?_
            obtain ⟨g17, hq⟩ := hq
            obtain ⟨i18, hq⟩ := hq
            refine x_iald 0 (Or.inl rfl) g17 i18 dX12_file_57 ?_
            refine x_istore_n (lv' := [(3, .int (aI h10 (fR h10 x0 3202) (Int32.toNatClampNeg x1))), (0, rv x0), (1, .int x1), (2, .int x2)]) dX12_file_58 (by decide) rfl ?_
            refine x_iload_n 3 dX12_file_59 rfl ?_
            refine x_iconst (v := (-1)) dX12_file_60 (by decide) ?_
            refine x_icmp_ne (tgt := 71) dX12_file_61 (by decide) (fun c19 => ?_) (fun c19 => ?_)
            · replace hq := hq.1 c19
              refine x_aload_n 1 dX12_file_71 rfl ?_
              refine x_get (v := rv (fR h10 x0 3183)) fdX12_207 dX12_file_72 t15 rfl ?_
              refine x_iload_n 0 dX12_file_75 rfl ?_
              obtain ⟨g20, hq⟩ := hq
              obtain ⟨i21, hq⟩ := hq
              refine x_iald 0 (Or.inl rfl) g20 i21 dX12_file_76 ?_
              refine x_istore (lv' := [(4, .int (aI h10 (fR h10 x0 3183) (Int32.toNatClampNeg (aI h10 (fR h10 x0 3202) (Int32.toNatClampNeg x1))))), (3, .int (aI h10 (fR h10 x0 3202) (Int32.toNatClampNeg x1))), (0, rv x0), (1, .int x1), (2, .int x2)]) dX12_file_77 (by decide) rfl ?_
              refine x_iconst (v := 0) dX12_file_79 (by decide) ?_
              refine x_istore (lv' := [(5, .int 0), (4, .int (aI h10 (fR h10 x0 3183) (Int32.toNatClampNeg (aI h10 (fR h10 x0 3202) (Int32.toNatClampNeg x1))))), (3, .int (aI h10 (fR h10 x0 3202) (Int32.toNatClampNeg x1))), (0, rv x0), (1, .int x1), (2, .int x2)]) dX12_file_80 (by decide) rfl ?_
              refine xP.pick (lv' := [(0, rv x0), (2, .int x2), (4, .int (aI h10 (fR h10 x0 3183) (Int32.toNatClampNeg (aI h10 (fR h10 x0 3202) (Int32.toNatClampNeg x1))))), (5, .int 0)]) [3, 5, 1, 0] rfl ?_
              exact hq
            · replace hq := hq.2 c19
              refine x_aload_n 1 dX12_file_64 rfl ?_
              refine x_get (v := rv (fR h10 x0 3186)) fdX12_216 dX12_file_65 t15 rfl ?_
              refine x_iload_n 0 dX12_file_68 rfl ?_
              obtain ⟨g22, hq⟩ := hq
              obtain ⟨i23, hq⟩ := hq
              refine x_iald 0 (Or.inl rfl) g22 i23 dX12_file_69 ?_
              exact x_iret rfl rfl dX12_file_70 hq
          · replace hq := hq.2 c16
            refine x_iload_n 2 dX12_file_41 rfl ?_
            refine x_iconst (v := (-1)) dX12_file_42 (by decide) ?_
            refine x_icmp_ne (tgt := 50) dX12_file_43 (by decide) (fun c24 => ?_) (fun c24 => ?_)
            · replace hq := hq.1 c24
              refine x_iconst (v := (-1)) dX12_file_50 (by decide) ?_
              refine xP.pick (lv' := []) [] rfl ?_
              exact uX12_file_51 hq
            · replace hq := hq.2 c24
              refine x_iconst (v := 0) dX12_file_46 (by decide) ?_
              refine x_goto (tgt := 51) dX12_file_47 (by decide) ?_
              refine xP.pick (lv' := []) [] rfl ?_
              exact uX12_file_51 hq
        · replace hq := hq.2 c14
          refine xP.pick (lv' := []) [] rfl ?_
          exact uX12_file_32 hq
theorem rX12_file {G : xG} {fr lo : Nat} {x0 : Nat} {x1 : Int32} {x2 : Int32} {h : xH} {Q : Outcome → xH → Prop} (hq : bX12_file G fr lo x0 x1 x2 h Q) : xR G YX12_file fr lo [rv x0, .int x1, .int x2] h Q := by
  show xP _ _ _ _ _ (lv_args 0 _) _ _ _
  rw [show lv_args 0 [rv x0, .int x1, .int x2] = [(0, rv x0), (1, .int x1), (2, .int x2)] from (xla1 (rv_cat _) (xla1 rfl (xla1 rfl xla0)))]
  exact uX12_file hq
set_option maxRecDepth 100000 in
theorem dX12_about_0 : decode cX12_about 0 = .ok (.aload_n 0, 1) := by decide +kernel
set_option maxRecDepth 100000 in
theorem dX12_about_1 : decode cX12_about 1 = .ok (.iconst 0, 1) := by decide +kernel
set_option maxRecDepth 100000 in
theorem dX12_about_2 : decode cX12_about 2 = .ok (.putfield 250, 3) := by decide +kernel
set_option maxRecDepth 100000 in
theorem dX12_about_5 : decode cX12_about 5 = .ok (.aload_n 0, 1) := by decide +kernel
set_option maxRecDepth 100000 in
theorem dX12_about_6 : decode cX12_about 6 = .ok (.getfield 1092, 3) := by decide +kernel
set_option maxRecDepth 100000 in
theorem dX12_about_9 : decode cX12_about 9 = .ok (.ifCond .eq 15, 3) := by decide +kernel
set_option maxRecDepth 100000 in
theorem dX12_about_12 : decode cX12_about 12 = .ok (.iload_n 1, 1) := by decide +kernel
set_option maxRecDepth 100000 in
theorem dX12_about_13 : decode cX12_about 13 = .ok (.iconst 2, 1) := by decide +kernel
set_option maxRecDepth 100000 in
theorem dX12_about_14 : decode cX12_about 14 = .ok (.if_icmp .le 12, 3) := by decide +kernel
set_option maxRecDepth 100000 in
theorem dX12_about_17 : decode cX12_about 17 = .ok (.aload_n 0, 1) := by decide +kernel
set_option maxRecDepth 100000 in
theorem dX12_about_18 : decode cX12_about 18 = .ok (.getfield 1095, 3) := by decide +kernel
set_option maxRecDepth 100000 in
theorem dX12_about_21 : decode cX12_about 21 = .ok (.ifCond .ne 5, 3) := by decide +kernel
set_option maxRecDepth 100000 in
theorem dX12_about_24 : decode cX12_about 24 = .ok (.iconst (-1), 1) := by decide +kernel
set_option maxRecDepth 100000 in
theorem dX12_about_25 : decode cX12_about 25 = .ok (.ireturn, 1) := by decide +kernel
set_option maxRecDepth 100000 in
theorem dX12_about_26 : decode cX12_about 26 = .ok (.iload_n 1, 1) := by decide +kernel
set_option maxRecDepth 100000 in
theorem dX12_about_27 : decode cX12_about 27 = .ok (.tableswitch 92 0 6 #[41, 48, 53, 61, 77, 82, 87], 41) := by decide +kernel
set_option maxRecDepth 100000 in
theorem dX12_about_68 : decode cX12_about 68 = .ok (.aload_n 0, 1) := by decide +kernel
set_option maxRecDepth 100000 in
theorem dX12_about_69 : decode cX12_about 69 = .ok (.getfield 378, 3) := by decide +kernel
set_option maxRecDepth 100000 in
theorem dX12_about_72 : decode cX12_about 72 = .ok (.iconst 1, 1) := by decide +kernel
set_option maxRecDepth 100000 in
theorem dX12_about_73 : decode cX12_about 73 = .ok (.isub, 1) := by decide +kernel
set_option maxRecDepth 100000 in
theorem dX12_about_74 : decode cX12_about 74 = .ok (.ireturn, 1) := by decide +kernel
set_option maxRecDepth 100000 in
theorem dX12_about_75 : decode cX12_about 75 = .ok (.aload_n 0, 1) := by decide +kernel
set_option maxRecDepth 100000 in
theorem dX12_about_76 : decode cX12_about 76 = .ok (.getfield 926, 3) := by decide +kernel
set_option maxRecDepth 100000 in
theorem dX12_about_79 : decode cX12_about 79 = .ok (.ireturn, 1) := by decide +kernel
set_option maxRecDepth 100000 in
theorem dX12_about_80 : decode cX12_about 80 = .ok (.aload_n 0, 1) := by decide +kernel
set_option maxRecDepth 100000 in
theorem dX12_about_81 : decode cX12_about 81 = .ok (.getfield 147, 3) := by decide +kernel
set_option maxRecDepth 100000 in
theorem dX12_about_84 : decode cX12_about 84 = .ok (.invokevirtual 554, 3) := by decide +kernel
set_option maxRecDepth 100000 in
theorem dX12_about_87 : decode cX12_about 87 = .ok (.ireturn, 1) := by decide +kernel
set_option maxRecDepth 100000 in
theorem dX12_about_88 : decode cX12_about 88 = .ok (.aload_n 0, 1) := by decide +kernel
set_option maxRecDepth 100000 in
theorem dX12_about_89 : decode cX12_about 89 = .ok (.getfield 1497, 3) := by decide +kernel
set_option maxRecDepth 100000 in
theorem dX12_about_92 : decode cX12_about 92 = .ok (.ifCond .eq 10, 3) := by decide +kernel
set_option maxRecDepth 100000 in
theorem dX12_about_95 : decode cX12_about 95 = .ok (.aload_n 0, 1) := by decide +kernel
set_option maxRecDepth 100000 in
theorem dX12_about_96 : decode cX12_about 96 = .ok (.getfield 1376, 3) := by decide +kernel
set_option maxRecDepth 100000 in
theorem dX12_about_99 : decode cX12_about 99 = .ok (.goto 4, 3) := by decide +kernel
set_option maxRecDepth 100000 in
theorem dX12_about_102 : decode cX12_about 102 = .ok (.iconst 0, 1) := by decide +kernel
set_option maxRecDepth 100000 in
theorem dX12_about_103 : decode cX12_about 103 = .ok (.ireturn, 1) := by decide +kernel
set_option maxRecDepth 100000 in
theorem dX12_about_104 : decode cX12_about 104 = .ok (.aload_n 0, 1) := by decide +kernel
set_option maxRecDepth 100000 in
theorem dX12_about_105 : decode cX12_about 105 = .ok (.getfield 1433, 3) := by decide +kernel
set_option maxRecDepth 100000 in
theorem dX12_about_108 : decode cX12_about 108 = .ok (.ireturn, 1) := by decide +kernel
set_option maxRecDepth 100000 in
theorem dX12_about_109 : decode cX12_about 109 = .ok (.aload_n 0, 1) := by decide +kernel
set_option maxRecDepth 100000 in
theorem dX12_about_110 : decode cX12_about 110 = .ok (.getfield 1382, 3) := by decide +kernel
set_option maxRecDepth 100000 in
theorem dX12_about_113 : decode cX12_about 113 = .ok (.ireturn, 1) := by decide +kernel
set_option maxRecDepth 100000 in
theorem dX12_about_114 : decode cX12_about 114 = .ok (.aload_n 0, 1) := by decide +kernel
set_option maxRecDepth 100000 in
theorem dX12_about_115 : decode cX12_about 115 = .ok (.getfield 1439, 3) := by decide +kernel
set_option maxRecDepth 100000 in
theorem dX12_about_118 : decode cX12_about 118 = .ok (.ireturn, 1) := by decide +kernel
set_option maxRecDepth 100000 in
theorem dX12_about_119 : decode cX12_about 119 = .ok (.iconst (-1), 1) := by decide +kernel
set_option maxRecDepth 100000 in
theorem dX12_about_120 : decode cX12_about 120 = .ok (.ireturn, 1) := by decide +kernel
set_option maxRecDepth 100000 in
def bX12_about_103 (G : xG) (fr lo : Nat) (s0 : Int32) (h : xH) (Q : Outcome → xH → Prop) : Prop := Q (.returned (some (.int s0))) h
set_option maxRecDepth 100000 in
theorem uX12_about_103 {G : xG} {fr lo : Nat} {s0 : Int32} {h : xH} {Q : Outcome → xH → Prop} (hq : bX12_about_103 G fr lo s0 h Q) : xP G YX12_about fr lo 103 [] [.int s0] h Q := by
  unfold bX12_about_103 at hq
  exact x_iret rfl rfl dX12_about_103 hq
set_option maxRecDepth 100000 in
def bX12_about_26 (G : xG) (fr lo : Nat) (x0 : Nat) (x1 : Int32) (h : xH) (Q : Outcome → xH → Prop) : Prop := ((x1 = 0 → tg h x0 = 13 ∧ Q (.returned (some (.int ((fI h x0 3087) - 1)))) h) ∧ (x1 = 1 → tg h x0 = 13 ∧ Q (.returned (some (.int (fI h x0 3134)))) h) ∧ (x1 = 2 → tg h x0 = 13 ∧ tg h (fR h x0 3128) = 29 ∧ 1 ≤ fr ∧ 12 ≤ lo ∧ xRi G YJ2_size (fr - 1) (lo - 12) [rv (fR h x0 3128)] h (fun x11 h10 => xext h h10 → Q (.returned (some (.int x11))) h10) (fun r h2 => Q (.threw r) h2)) ∧ (x1 = 3 → tg h x0 = 13 ∧ (((fI h x0 3201) = 0 → bX12_about_103 G fr lo 0 h Q) ∧ (¬ (fI h x0 3201) = 0 → bX12_about_103 G fr lo (fI h x0 3165) h Q))) ∧ (x1 = 4 → tg h x0 = 13 ∧ Q (.returned (some (.int (fI h x0 3157)))) h) ∧ (x1 = 5 → tg h x0 = 13 ∧ Q (.returned (some (.int (fI h x0 3152)))) h) ∧ (x1 = 6 → tg h x0 = 13 ∧ Q (.returned (some (.int (fI h x0 3156)))) h) ∧ (¬ x1 = 0 → ¬ x1 = 1 → ¬ x1 = 2 → ¬ x1 = 3 → ¬ x1 = 4 → ¬ x1 = 5 → ¬ x1 = 6 → Q (.returned (some (.int (-1)))) h))
set_option maxRecDepth 100000 in
theorem uX12_about_26 {G : xG} {fr lo : Nat} {x0 : Nat} {x1 : Int32} {h : xH} {Q : Outcome → xH → Prop} (hq : bX12_about_26 G fr lo x0 x1 h Q) : xP G YX12_about fr lo 26 [(0, rv x0), (1, .int x1)] [] h Q := by
  unfold bX12_about_26 at hq
  refine x_iload_n 1 dX12_about_26 rfl ?_
  by_cases c1 : x1 = 0
  · replace hq := hq.1 c1
    refine x_tin (tgt := 68) (off := 41) 0 c1 dX12_about_27 (by decide) (by decide) (by decide) (by decide) ?_
    refine x_aload_n 0 dX12_about_68 rfl ?_
    obtain ⟨g2, hq⟩ := hq
    refine x_get (v := .int (fI h x0 3087)) fdX12_378 dX12_about_69 g2 rfl ?_
    refine x_iconst (v := 1) dX12_about_72 (by decide) ?_
    refine x_isub dX12_about_73 ?_
    exact x_iret rfl rfl dX12_about_74 hq
  replace hq := hq.2
  by_cases c3 : x1 = 1
  · replace hq := hq.1 c3
    refine x_tin (tgt := 75) (off := 48) 1 c3 dX12_about_27 (by decide) (by decide) (by decide) (by decide) ?_
    refine x_aload_n 0 dX12_about_75 rfl ?_
    obtain ⟨g4, hq⟩ := hq
    refine x_get (v := .int (fI h x0 3134)) fdX12_926 dX12_about_76 g4 rfl ?_
    exact x_iret rfl rfl dX12_about_79 hq
  replace hq := hq.2
  by_cases c5 : x1 = 2
  · replace hq := hq.1 c5
    refine x_tin (tgt := 80) (off := 53) 2 c5 dX12_about_27 (by decide) (by decide) (by decide) (by decide) ?_
    refine x_aload_n 0 dX12_about_80 rfl ?_
    obtain ⟨g6, hq⟩ := hq
    refine x_get (v := rv (fR h x0 3128)) fdX12_147 dX12_about_81 g6 rfl ?_
    obtain ⟨g7, hq⟩ := hq
    obtain ⟨g8, g9, hq⟩ := hq
    refine x_callV (Yc := YJ2_size) (as := []) (st := []) q4067 mvJ2_size g7 rfl dX12_about_84 (xle (xal1 (rv_cat _) xal0) (by decide)) (xfr g8) (xlo xsw0 (by decide) g9) (xKi hq (fun x11 h10 hq e12 => ?_) (fun _ _ q _ => q))
    replace hq := hq e12
    exact x_iret rfl rfl dX12_about_87 hq
  replace hq := hq.2
  by_cases c13 : x1 = 3
  · replace hq := hq.1 c13
    refine x_tin (tgt := 88) (off := 61) 3 c13 dX12_about_27 (by decide) (by decide) (by decide) (by decide) ?_
    refine x_aload_n 0 dX12_about_88 rfl ?_
    obtain ⟨g14, hq⟩ := hq
    refine x_get (v := .int (fI h x0 3201)) fdX12_1497 dX12_about_89 g14 rfl ?_
    refine x_if_eq (tgt := 102) dX12_about_92 (by decide) (fun c15 => ?_) (fun c15 => ?_)
    · replace hq := hq.1 c15
      refine x_iconst (v := 0) dX12_about_102 (by decide) ?_
      refine xP.pick (lv' := []) [] rfl ?_
      exact uX12_about_103 hq
    · replace hq := hq.2 c15
      refine x_aload_n 0 dX12_about_95 rfl ?_
      refine x_get (v := .int (fI h x0 3165)) fdX12_1376 dX12_about_96 g14 rfl ?_
      refine x_goto (tgt := 103) dX12_about_99 (by decide) ?_
      refine xP.pick (lv' := []) [] rfl ?_
      exact uX12_about_103 hq
  replace hq := hq.2
  by_cases c16 : x1 = 4
  · replace hq := hq.1 c16
    refine x_tin (tgt := 104) (off := 77) 4 c16 dX12_about_27 (by decide) (by decide) (by decide) (by decide) ?_
    refine x_aload_n 0 dX12_about_104 rfl ?_
    obtain ⟨g17, hq⟩ := hq
    refine x_get (v := .int (fI h x0 3157)) fdX12_1433 dX12_about_105 g17 rfl ?_
    exact x_iret rfl rfl dX12_about_108 hq
  replace hq := hq.2
  by_cases c18 : x1 = 5
  · replace hq := hq.1 c18
    refine x_tin (tgt := 109) (off := 82) 5 c18 dX12_about_27 (by decide) (by decide) (by decide) (by decide) ?_
    refine x_aload_n 0 dX12_about_109 rfl ?_
    obtain ⟨g19, hq⟩ := hq
    refine x_get (v := .int (fI h x0 3152)) fdX12_1382 dX12_about_110 g19 rfl ?_
    exact x_iret rfl rfl dX12_about_113 hq
  replace hq := hq.2
  by_cases c20 : x1 = 6
  · replace hq := hq.1 c20
    refine x_tin (tgt := 114) (off := 87) 6 c20 dX12_about_27 (by decide) (by decide) (by decide) (by decide) ?_
    refine x_aload_n 0 dX12_about_114 rfl ?_
    obtain ⟨g21, hq⟩ := hq
    refine x_get (v := .int (fI h x0 3156)) fdX12_1439 dX12_about_115 g21 rfl ?_
    exact x_iret rfl rfl dX12_about_118 hq
  replace hq := hq.2
  replace hq := hq c1 c3 c5 c13 c16 c18 c20
  have nc1 := lv_neT c1 (show (0 : Int32).toInt = 0 from by decide)
  have nc3 := lv_neT c3 (show (1 : Int32).toInt = 1 from by decide)
  have nc5 := lv_neT c5 (show (2 : Int32).toInt = 2 from by decide)
  have nc13 := lv_neT c13 (show (3 : Int32).toInt = 3 from by decide)
  have nc16 := lv_neT c16 (show (4 : Int32).toInt = 4 from by decide)
  have nc18 := lv_neT c18 (show (5 : Int32).toInt = 5 from by decide)
  have nc20 := lv_neT c20 (show (6 : Int32).toInt = 6 from by decide)
  refine x_tout (tgt := 119) dX12_about_27 (by omega) (by decide) ?_
  refine x_iconst (v := (-1)) dX12_about_119 (by decide) ?_
  exact x_iret rfl rfl dX12_about_120 hq
set_option maxRecDepth 100000 in
def bX12_about_24 (G : xG) (fr lo : Nat) (h : xH) (Q : Outcome → xH → Prop) : Prop := Q (.returned (some (.int (-1)))) h
set_option maxRecDepth 100000 in
theorem uX12_about_24 {G : xG} {fr lo : Nat} {h : xH} {Q : Outcome → xH → Prop} (hq : bX12_about_24 G fr lo h Q) : xP G YX12_about fr lo 24 [] [] h Q := by
  unfold bX12_about_24 at hq
  refine x_iconst (v := (-1)) dX12_about_24 (by decide) ?_
  exact x_iret rfl rfl dX12_about_25 hq
set_option maxRecDepth 100000 in
def bX12_about (G : xG) (fr lo : Nat) (x0 : Nat) (x1 : Int32) (h : xH) (Q : Outcome → xH → Prop) : Prop := tg h x0 = 13 ∧ (∀ h2 : xH, h2 = sI h x0 3072 0 → (((fI h2 x0 3142) = 0 → bX12_about_24 G fr lo h2 Q) ∧ (¬ (fI h2 x0 3142) = 0 → ((x1 ≤ 2 → bX12_about_26 G fr lo x0 x1 h2 Q) ∧ (¬ x1 ≤ 2 → ((¬ (fI h2 x0 3143) = 0 → bX12_about_26 G fr lo x0 x1 h2 Q) ∧ ((fI h2 x0 3143) = 0 → bX12_about_24 G fr lo h2 Q)))))))
set_option maxRecDepth 100000 in
theorem uX12_about {G : xG} {fr lo : Nat} {x0 : Nat} {x1 : Int32} {h : xH} {Q : Outcome → xH → Prop} (hq : bX12_about G fr lo x0 x1 h Q) : xP G YX12_about fr lo 0 [(0, rv x0), (1, .int x1)] [] h Q := by
  unfold bX12_about at hq
  refine x_aload_n 0 dX12_about_0 rfl ?_
  refine x_iconst (v := 0) dX12_about_1 (by decide) ?_
  obtain ⟨g1, hq⟩ := hq
  obtain ⟨h2, e3⟩ : ∃ y, y = sI h x0 3072 0 := ⟨_, rfl⟩
  replace hq := hq h2 e3
  refine x_putI fdX12_250 xty_I1 dX12_about_2 g1 (Or.inl (by rw [g1]; rfl)) xnI rfl e3 ?_
  refine x_aload_n 0 dX12_about_5 rfl ?_
  have t4 : tg h2 x0 = 13 := by rw [e3]; exact g1
  refine x_get (v := .int (fI h2 x0 3142)) fdX12_1092 dX12_about_6 t4 rfl ?_
  refine x_if_eq (tgt := 24) dX12_about_9 (by decide) (fun c5 => ?_) (fun c5 => ?_)
  · replace hq := hq.1 c5
    refine xP.pick (lv' := []) [] rfl ?_
    exact uX12_about_24 hq
  · replace hq := hq.2 c5
    refine x_iload_n 1 dX12_about_12 rfl ?_
    refine x_iconst (v := 2) dX12_about_13 (by decide) ?_
    refine x_icmp_le (tgt := 26) dX12_about_14 (by decide) (fun c6 => ?_) (fun c6 => ?_)
    · replace hq := hq.1 c6
      exact uX12_about_26 hq
    · replace hq := hq.2 c6
      refine x_aload_n 0 dX12_about_17 rfl ?_
      refine x_get (v := .int (fI h2 x0 3143)) fdX12_1095 dX12_about_18 t4 rfl ?_
      refine x_if_ne (tgt := 26) dX12_about_21 (by decide) (fun c7 => ?_) (fun c7 => ?_)
      · replace hq := hq.1 c7
        exact uX12_about_26 hq
      · replace hq := hq.2 c7
        refine xP.pick (lv' := []) [] rfl ?_
        exact uX12_about_24 hq
theorem rX12_about {G : xG} {fr lo : Nat} {x0 : Nat} {x1 : Int32} {h : xH} {Q : Outcome → xH → Prop} (hq : bX12_about G fr lo x0 x1 h Q) : xR G YX12_about fr lo [rv x0, .int x1] h Q := by
  show xP _ _ _ _ _ (lv_args 0 _) _ _ _
  rw [show lv_args 0 [rv x0, .int x1] = [(0, rv x0), (1, .int x1)] from (xla1 (rv_cat _) (xla1 rfl xla0))]
  exact uX12_about hq
