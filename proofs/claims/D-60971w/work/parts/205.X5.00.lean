/-! PascalHouse$Compiler, walked (1) -/
set_option maxRecDepth 100000 in
theorem dX5_init_0 : decode cX5_init 0 = .ok (.aload_n 0, 1) := by decide +kernel
set_option maxRecDepth 100000 in
theorem dX5_init_1 : decode cX5_init 1 = .ok (.invokespecial 3, 3) := by decide +kernel
set_option maxRecDepth 100000 in
theorem dX5_init_4 : decode cX5_init 4 = .ok (.aload_n 0, 1) := by decide +kernel
set_option maxRecDepth 100000 in
theorem dX5_init_5 : decode cX5_init 5 = .ok (.new 9, 3) := by decide +kernel
set_option maxRecDepth 100000 in
theorem dX5_init_8 : decode cX5_init 8 = .ok (.dup, 1) := by decide +kernel
set_option maxRecDepth 100000 in
theorem dX5_init_9 : decode cX5_init 9 = .ok (.iconst 0, 1) := by decide +kernel
set_option maxRecDepth 100000 in
theorem dX5_init_10 : decode cX5_init 10 = .ok (.invokespecial 11, 3) := by decide +kernel
set_option maxRecDepth 100000 in
theorem dX5_init_13 : decode cX5_init 13 = .ok (.ldc 14, 2) := by decide +kernel
set_option maxRecDepth 100000 in
theorem dX5_init_15 : decode cX5_init 15 = .ok (.ldc 15, 2) := by decide +kernel
set_option maxRecDepth 100000 in
theorem dX5_init_17 : decode cX5_init 17 = .ok (.invokevirtual 16, 3) := by decide +kernel
set_option maxRecDepth 100000 in
theorem dX5_init_20 : decode cX5_init 20 = .ok (.putfield 20, 3) := by decide +kernel
set_option maxRecDepth 100000 in
theorem dX5_init_23 : decode cX5_init 23 = .ok (.aload_n 0, 1) := by decide +kernel
set_option maxRecDepth 100000 in
theorem dX5_init_24 : decode cX5_init 24 = .ok (.new 9, 3) := by decide +kernel
set_option maxRecDepth 100000 in
theorem dX5_init_27 : decode cX5_init 27 = .ok (.dup, 1) := by decide +kernel
set_option maxRecDepth 100000 in
theorem dX5_init_28 : decode cX5_init 28 = .ok (.iconst 1, 1) := by decide +kernel
set_option maxRecDepth 100000 in
theorem dX5_init_29 : decode cX5_init 29 = .ok (.invokespecial 11, 3) := by decide +kernel
set_option maxRecDepth 100000 in
theorem dX5_init_32 : decode cX5_init 32 = .ok (.putfield 26, 3) := by decide +kernel
set_option maxRecDepth 100000 in
theorem dX5_init_35 : decode cX5_init 35 = .ok (.aload_n 0, 1) := by decide +kernel
set_option maxRecDepth 100000 in
theorem dX5_init_36 : decode cX5_init 36 = .ok (.new 9, 3) := by decide +kernel
set_option maxRecDepth 100000 in
theorem dX5_init_39 : decode cX5_init 39 = .ok (.dup, 1) := by decide +kernel
set_option maxRecDepth 100000 in
theorem dX5_init_40 : decode cX5_init 40 = .ok (.iconst 2, 1) := by decide +kernel
set_option maxRecDepth 100000 in
theorem dX5_init_41 : decode cX5_init 41 = .ok (.invokespecial 11, 3) := by decide +kernel
set_option maxRecDepth 100000 in
theorem dX5_init_44 : decode cX5_init 44 = .ok (.iconst 0, 1) := by decide +kernel
set_option maxRecDepth 100000 in
theorem dX5_init_45 : decode cX5_init 45 = .ok (.iconst 1, 1) := by decide +kernel
set_option maxRecDepth 100000 in
theorem dX5_init_46 : decode cX5_init 46 = .ok (.invokevirtual 16, 3) := by decide +kernel
set_option maxRecDepth 100000 in
theorem dX5_init_49 : decode cX5_init 49 = .ok (.putfield 29, 3) := by decide +kernel
set_option maxRecDepth 100000 in
theorem dX5_init_52 : decode cX5_init 52 = .ok (.aload_n 0, 1) := by decide +kernel
set_option maxRecDepth 100000 in
theorem dX5_init_53 : decode cX5_init 53 = .ok (.new 9, 3) := by decide +kernel
set_option maxRecDepth 100000 in
theorem dX5_init_56 : decode cX5_init 56 = .ok (.dup, 1) := by decide +kernel
set_option maxRecDepth 100000 in
theorem dX5_init_57 : decode cX5_init 57 = .ok (.iconst 3, 1) := by decide +kernel
set_option maxRecDepth 100000 in
theorem dX5_init_58 : decode cX5_init 58 = .ok (.invokespecial 11, 3) := by decide +kernel
set_option maxRecDepth 100000 in
theorem dX5_init_61 : decode cX5_init 61 = .ok (.iconst 0, 1) := by decide +kernel
set_option maxRecDepth 100000 in
theorem dX5_init_62 : decode cX5_init 62 = .ok (.bipush 127, 2) := by decide +kernel
set_option maxRecDepth 100000 in
theorem dX5_init_64 : decode cX5_init 64 = .ok (.invokevirtual 16, 3) := by decide +kernel
set_option maxRecDepth 100000 in
theorem dX5_init_67 : decode cX5_init 67 = .ok (.putfield 32, 3) := by decide +kernel
set_option maxRecDepth 100000 in
theorem dX5_init_70 : decode cX5_init 70 = .ok (.aload_n 0, 1) := by decide +kernel
set_option maxRecDepth 100000 in
theorem dX5_init_71 : decode cX5_init 71 = .ok (.new 9, 3) := by decide +kernel
set_option maxRecDepth 100000 in
theorem dX5_init_74 : decode cX5_init 74 = .ok (.dup, 1) := by decide +kernel
set_option maxRecDepth 100000 in
theorem dX5_init_75 : decode cX5_init 75 = .ok (.bipush 10, 2) := by decide +kernel
set_option maxRecDepth 100000 in
theorem dX5_init_77 : decode cX5_init 77 = .ok (.invokespecial 11, 3) := by decide +kernel
set_option maxRecDepth 100000 in
theorem dX5_init_80 : decode cX5_init 80 = .ok (.aload_n 0, 1) := by decide +kernel
set_option maxRecDepth 100000 in
theorem dX5_init_81 : decode cX5_init 81 = .ok (.getfield 32, 3) := by decide +kernel
set_option maxRecDepth 100000 in
theorem dX5_init_84 : decode cX5_init 84 = .ok (.invokevirtual 35, 3) := by decide +kernel
set_option maxRecDepth 100000 in
theorem dX5_init_87 : decode cX5_init 87 = .ok (.putfield 39, 3) := by decide +kernel
set_option maxRecDepth 100000 in
theorem dX5_init_90 : decode cX5_init 90 = .ok (.aload_n 0, 1) := by decide +kernel
set_option maxRecDepth 100000 in
theorem dX5_init_91 : decode cX5_init 91 = .ok (.new 9, 3) := by decide +kernel
set_option maxRecDepth 100000 in
theorem dX5_init_94 : decode cX5_init 94 = .ok (.dup, 1) := by decide +kernel
set_option maxRecDepth 100000 in
theorem dX5_init_95 : decode cX5_init 95 = .ok (.bipush 11, 2) := by decide +kernel
set_option maxRecDepth 100000 in
theorem dX5_init_97 : decode cX5_init 97 = .ok (.invokespecial 11, 3) := by decide +kernel
set_option maxRecDepth 100000 in
theorem dX5_init_100 : decode cX5_init 100 = .ok (.putfield 42, 3) := by decide +kernel
set_option maxRecDepth 100000 in
theorem dX5_init_103 : decode cX5_init 103 = .ok (.aload_n 0, 1) := by decide +kernel
set_option maxRecDepth 100000 in
theorem dX5_init_104 : decode cX5_init 104 = .ok (.new 9, 3) := by decide +kernel
set_option maxRecDepth 100000 in
theorem dX5_init_107 : decode cX5_init 107 = .ok (.dup, 1) := by decide +kernel
set_option maxRecDepth 100000 in
theorem dX5_init_108 : decode cX5_init 108 = .ok (.bipush 12, 2) := by decide +kernel
set_option maxRecDepth 100000 in
theorem dX5_init_110 : decode cX5_init 110 = .ok (.invokespecial 11, 3) := by decide +kernel
set_option maxRecDepth 100000 in
theorem dX5_init_113 : decode cX5_init 113 = .ok (.putfield 45, 3) := by decide +kernel
set_option maxRecDepth 100000 in
theorem dX5_init_116 : decode cX5_init 116 = .ok (.aload_n 0, 1) := by decide +kernel
set_option maxRecDepth 100000 in
theorem dX5_init_117 : decode cX5_init 117 = .ok (.new 48, 3) := by decide +kernel
set_option maxRecDepth 100000 in
theorem dX5_init_120 : decode cX5_init 120 = .ok (.dup, 1) := by decide +kernel
set_option maxRecDepth 100000 in
theorem dX5_init_121 : decode cX5_init 121 = .ok (.iconst 2, 1) := by decide +kernel
set_option maxRecDepth 100000 in
theorem dX5_init_122 : decode cX5_init 122 = .ok (.invokespecial 50, 3) := by decide +kernel
set_option maxRecDepth 100000 in
theorem dX5_init_125 : decode cX5_init 125 = .ok (.putfield 51, 3) := by decide +kernel
set_option maxRecDepth 100000 in
theorem dX5_init_128 : decode cX5_init 128 = .ok (.aload_n 0, 1) := by decide +kernel
set_option maxRecDepth 100000 in
theorem dX5_init_129 : decode cX5_init 129 = .ok (.new 48, 3) := by decide +kernel
set_option maxRecDepth 100000 in
theorem dX5_init_132 : decode cX5_init 132 = .ok (.dup, 1) := by decide +kernel
set_option maxRecDepth 100000 in
theorem dX5_init_133 : decode cX5_init 133 = .ok (.iconst 2, 1) := by decide +kernel
set_option maxRecDepth 100000 in
theorem dX5_init_134 : decode cX5_init 134 = .ok (.invokespecial 50, 3) := by decide +kernel
set_option maxRecDepth 100000 in
theorem dX5_init_137 : decode cX5_init 137 = .ok (.putfield 55, 3) := by decide +kernel
set_option maxRecDepth 100000 in
theorem dX5_init_140 : decode cX5_init 140 = .ok (.aload_n 0, 1) := by decide +kernel
set_option maxRecDepth 100000 in
theorem dX5_init_141 : decode cX5_init 141 = .ok (.aload_n 1, 1) := by decide +kernel
set_option maxRecDepth 100000 in
theorem dX5_init_142 : decode cX5_init 142 = .ok (.putfield 58, 3) := by decide +kernel
set_option maxRecDepth 100000 in
theorem dX5_init_145 : decode cX5_init 145 = .ok (.aload_n 0, 1) := by decide +kernel
set_option maxRecDepth 100000 in
theorem dX5_init_146 : decode cX5_init 146 = .ok (.aload_n 2, 1) := by decide +kernel
set_option maxRecDepth 100000 in
theorem dX5_init_147 : decode cX5_init 147 = .ok (.putfield 62, 3) := by decide +kernel
set_option maxRecDepth 100000 in
theorem dX5_init_150 : decode cX5_init 150 = .ok (.aload_n 0, 1) := by decide +kernel
set_option maxRecDepth 100000 in
theorem dX5_init_151 : decode cX5_init 151 = .ok (.getfield 39, 3) := by decide +kernel
set_option maxRecDepth 100000 in
theorem dX5_init_154 : decode cX5_init 154 = .ok (.iconst 2, 1) := by decide +kernel
set_option maxRecDepth 100000 in
theorem dX5_init_155 : decode cX5_init 155 = .ok (.putfield 66, 3) := by decide +kernel
set_option maxRecDepth 100000 in
theorem dX5_init_158 : decode cX5_init 158 = .ok (.aload_n 0, 1) := by decide +kernel
set_option maxRecDepth 100000 in
theorem dX5_init_159 : decode cX5_init 159 = .ok (.invokevirtual 70, 3) := by decide +kernel
set_option maxRecDepth 100000 in
theorem dX5_init_162 : decode cX5_init 162 = .ok (.aload_n 0, 1) := by decide +kernel
set_option maxRecDepth 100000 in
theorem dX5_init_163 : decode cX5_init 163 = .ok (.aload_n 0, 1) := by decide +kernel
set_option maxRecDepth 100000 in
theorem dX5_init_164 : decode cX5_init 164 = .ok (.getfield 73, 3) := by decide +kernel
set_option maxRecDepth 100000 in
theorem dX5_init_167 : decode cX5_init 167 = .ok (.putfield 77, 3) := by decide +kernel
set_option maxRecDepth 100000 in
theorem dX5_init_170 : decode cX5_init 170 = .ok (.return_, 1) := by decide +kernel
set_option maxRecDepth 100000 in
def bX5_init (G : xG) (fr lo : Nat) (x0 : Nat) (x1 : Nat) (x2 : Nat) (h : xH) (Q : Outcome → xH → Prop) : Prop := tg h x0 = 6 ∧ 1 ≤ fr ∧ 12 ≤ lo ∧ nx h + 1 ≤ xGN G ∧ us h + 9 ≤ xGU G ∧ (∀ (a6 : Nat) (h7 : xH), a6 = nx h + 1 → h7 = nO h 7 9 → xfresh h a6 → 1 ≤ fr ∧ 15 ≤ lo ∧ xRv G YX6_init (fr - 1) (lo - 15) [rv a6, .int 0] h7 (fun h14 => xext h7 h14 → 1 ≤ fr ∧ 15 ≤ lo ∧ xRr G YX6_bounded (fr - 1) (lo - 15) [rv a6, .int (-2147483647), .int 2147483647] h14 (fun x21 h20 => xext h14 h20 → (∀ h26 : xH, h26 = sR h20 x0 1282 x21 → nx h26 + 1 ≤ xGN G ∧ us h26 + 9 ≤ xGU G ∧ (∀ (a30 : Nat) (h31 : xH), a30 = nx h26 + 1 → h31 = nO h26 7 9 → xfresh h26 a30 → 1 ≤ fr ∧ 15 ≤ lo ∧ xRv G YX6_init (fr - 1) (lo - 15) [rv a30, .int 1] h31 (fun h38 => xext h31 h38 → (∀ h44 : xH, h44 = sR h38 x0 1283 a30 → nx h44 + 1 ≤ xGN G ∧ us h44 + 9 ≤ xGU G ∧ (∀ (a48 : Nat) (h49 : xH), a48 = nx h44 + 1 → h49 = nO h44 7 9 → xfresh h44 a48 → 1 ≤ fr ∧ 15 ≤ lo ∧ xRv G YX6_init (fr - 1) (lo - 15) [rv a48, .int 2] h49 (fun h56 => xext h49 h56 → 1 ≤ fr ∧ 15 ≤ lo ∧ xRr G YX6_bounded (fr - 1) (lo - 15) [rv a48, .int 0, .int 1] h56 (fun x63 h62 => xext h56 h62 → (∀ h69 : xH, h69 = sR h62 x0 1284 x63 → nx h69 + 1 ≤ xGN G ∧ us h69 + 9 ≤ xGU G ∧ (∀ (a73 : Nat) (h74 : xH), a73 = nx h69 + 1 → h74 = nO h69 7 9 → xfresh h69 a73 → 1 ≤ fr ∧ 15 ≤ lo ∧ xRv G YX6_init (fr - 1) (lo - 15) [rv a73, .int 3] h74 (fun h81 => xext h74 h81 → 1 ≤ fr ∧ 15 ≤ lo ∧ xRr G YX6_bounded (fr - 1) (lo - 15) [rv a73, .int 0, .int 127] h81 (fun x88 h87 => xext h81 h87 → (∀ h94 : xH, h94 = sR h87 x0 1285 x88 → nx h94 + 1 ≤ xGN G ∧ us h94 + 9 ≤ xGU G ∧ (∀ (a98 : Nat) (h99 : xH), a98 = nx h94 + 1 → h99 = nO h94 7 9 → xfresh h94 a98 → 1 ≤ fr ∧ 15 ≤ lo ∧ xRv G YX6_init (fr - 1) (lo - 15) [rv a98, .int 10] h99 (fun h106 => xext h99 h106 → 1 ≤ fr ∧ 14 ≤ lo ∧ xRr G YX6_of (fr - 1) (lo - 14) [rv a98, rv (fR h106 x0 1285)] h106 (fun x116 h115 => xext h106 h115 → (∀ h119 : xH, h119 = sR h115 x0 1286 x116 → nx h119 + 1 ≤ xGN G ∧ us h119 + 9 ≤ xGU G ∧ (∀ (a123 : Nat) (h124 : xH), a123 = nx h119 + 1 → h124 = nO h119 7 9 → xfresh h119 a123 → 1 ≤ fr ∧ 15 ≤ lo ∧ xRv G YX6_init (fr - 1) (lo - 15) [rv a123, .int 11] h124 (fun h131 => xext h124 h131 → (∀ h137 : xH, h137 = sR h131 x0 1287 a123 → nx h137 + 1 ≤ xGN G ∧ us h137 + 9 ≤ xGU G ∧ (∀ (a141 : Nat) (h142 : xH), a141 = nx h137 + 1 → h142 = nO h137 7 9 → xfresh h137 a141 → 1 ≤ fr ∧ 15 ≤ lo ∧ xRv G YX6_init (fr - 1) (lo - 15) [rv a141, .int 12] h142 (fun h149 => xext h142 h149 → (∀ h155 : xH, h155 = sR h149 x0 1288 a141 → nx h155 + 1 ≤ xGN G ∧ us h155 + 3 ≤ xGU G ∧ (∀ (a159 : Nat) (h160 : xH), a159 = nx h155 + 1 → h160 = nO h155 29 3 → xfresh h155 a159 → 1 ≤ fr ∧ 15 ≤ lo ∧ xRv G YJ2_init (fr - 1) (lo - 15) [rv a159, .int 2] h160 (fun h167 => xext h160 h167 → (∀ h173 : xH, h173 = sR h167 x0 1289 a159 → nx h173 + 1 ≤ xGN G ∧ us h173 + 3 ≤ xGU G ∧ (∀ (a177 : Nat) (h178 : xH), a177 = nx h173 + 1 → h178 = nO h173 29 3 → xfresh h173 a177 → 1 ≤ fr ∧ 15 ≤ lo ∧ xRv G YJ2_init (fr - 1) (lo - 15) [rv a177, .int 2] h178 (fun h185 => xext h178 h185 → (∀ h191 : xH, h191 = sR h185 x0 1290 a177 → (∀ h194 : xH, h194 = sR h191 x0 1280 x1 → (∀ h197 : xH, h197 = sR h194 x0 1281 x2 → tg h197 (fR h197 x0 1286) = 7 ∧ (∀ h201 : xH, h201 = sI h197 (fR h197 x0 1286) 1543 2 → 1 ≤ fr ∧ 12 ≤ lo ∧ xRv G YX5_begin (fr - 1) (lo - 12) [rv x0] h201 (fun h206 => xext h201 h206 → (∀ h210 : xH, h210 = sR h206 x0 1292 (fR h206 x0 1293) → Q (.returned none) h210)) (fun r h2 => Q (.threw r) h2)))))) (fun r h2 => Q (.threw r) h2)))) (fun r h2 => Q (.threw r) h2)))) (fun r h2 => Q (.threw r) h2)))) (fun r h2 => Q (.threw r) h2)))) (fun r h2 => Q (.threw r) h2)) (fun r h2 => Q (.threw r) h2)))) (fun r h2 => Q (.threw r) h2)) (fun r h2 => Q (.threw r) h2)))) (fun r h2 => Q (.threw r) h2)) (fun r h2 => Q (.threw r) h2)))) (fun r h2 => Q (.threw r) h2)))) (fun r h2 => Q (.threw r) h2)) (fun r h2 => Q (.threw r) h2))
set_option maxRecDepth 100000 in
theorem uX5_init {G : xG} {fr lo : Nat} {x0 : Nat} {x1 : Nat} {x2 : Nat} {h : xH} {Q : Outcome → xH → Prop} (hq : bX5_init G fr lo x0 x1 x2 h Q) : xP G YX5_init fr lo 0 [(0, rv x0), (1, rv x1), (2, rv x2)] [] h Q := by
  unfold bX5_init at hq
  refine x_aload_n 0 dX5_init_0 rfl ?_
  obtain ⟨g1, hq⟩ := hq
  obtain ⟨g2, g3, hq⟩ := hq
  refine x_objInit (by rw [g1]; decide) q686 q438 q439 dX5_init_1 g2 (by simp only [List.map_cons, List.map_nil, List.sum_cons, List.sum_nil, rv_cat, Value.category]; omega) ?_
  refine x_aload_n 0 dX5_init_4 rfl ?_
  obtain ⟨g4, g5, hq⟩ := hq
  obtain ⟨a6, e8⟩ : ∃ y, y = nx h + 1 := ⟨_, rfl⟩
  obtain ⟨h7, e9⟩ : ∃ y, y = nO h 7 9 := ⟨_, rfl⟩
  refine x_new' cdX5_9 dX5_init_5 g4 g5 e8 e9 (fun f10 => ?_)
  replace hq := hq a6 h7 e8 e9 f10
  have t11 : tg h7 a6 = 7 := by rw [e9, e8]; exact tg_nO
  refine x_dup dX5_init_8 (rv_cat _) ?_
  refine x_iconst (v := 0) dX5_init_9 (by decide) ?_
  obtain ⟨g12, g13, hq⟩ := hq
  refine x_callI (Yc := YX6_init) (as := [.int 0]) (st := [rv a6, rv x0]) q689 miX6_init (by rw [t11]; decide) rfl dX5_init_10 (xle (xal1 (rv_cat _) (xal1 rfl xal0)) (by decide)) (xfr g12) (xlo (xsw1 (rv_cat _) (xsw1 (rv_cat _) xsw0)) (by decide) g13) (xKv hq (fun h14 hq e16 => ?_) (fun _ _ q _ => q))
  replace hq := hq e16
  refine x_ldc (v := (-2147483647)) q734 dX5_init_13 ?_
  refine x_ldc (v := 2147483647) q735 dX5_init_15 ?_
  have t17 : tg h14 a6 = 7 := e16.tg t11 (by decide)
  obtain ⟨g18, g19, hq⟩ := hq
  refine x_callV (Yc := YX6_bounded) (as := [.int (-2147483647), .int 2147483647]) (st := [rv x0]) q736 mvX6_bounded t17 rfl dX5_init_17 (xle (xal1 (rv_cat _) (xal1 rfl (xal1 rfl xal0))) (by decide)) (xfr g18) (xlo (xsw1 (rv_cat _) xsw0) (by decide) g19) (xKr hq (fun x21 h20 hq e22 => ?_) (fun _ _ q _ => q))
  replace hq := hq e22
  have t23 : tg h7 x0 = 6 := by rw [e9]; exact tg_nO_ne e8 f10 g1 (by decide)
  have t24 : tg h14 x0 = 6 := e16.tg t23 (by decide)
  have t25 : tg h20 x0 = 6 := e22.tg t24 (by decide)
  obtain ⟨h26, e27⟩ : ∃ y, y = sR h20 x0 1282 x21 := ⟨_, rfl⟩
  replace hq := hq h26 e27
  refine x_putFR fdX5_20 owX5_init_2 xty_O dX5_init_20 t25 (Or.inl (by rw [t25]; rfl)) rfl e27 ?_
  refine x_aload_n 0 dX5_init_23 rfl ?_
  obtain ⟨g28, g29, hq⟩ := hq
  obtain ⟨a30, e32⟩ : ∃ y, y = nx h26 + 1 := ⟨_, rfl⟩
  obtain ⟨h31, e33⟩ : ∃ y, y = nO h26 7 9 := ⟨_, rfl⟩
  refine x_new' cdX5_9 dX5_init_24 g28 g29 e32 e33 (fun f34 => ?_)
  replace hq := hq a30 h31 e32 e33 f34
  have t35 : tg h31 a30 = 7 := by rw [e33, e32]; exact tg_nO
  refine x_dup dX5_init_27 (rv_cat _) ?_
  refine x_iconst (v := 1) dX5_init_28 (by decide) ?_
  obtain ⟨g36, g37, hq⟩ := hq
  refine x_callI (Yc := YX6_init) (as := [.int 1]) (st := [rv a30, rv x0]) q689 miX6_init (by rw [t35]; decide) rfl dX5_init_29 (xle (xal1 (rv_cat _) (xal1 rfl xal0)) (by decide)) (xfr g36) (xlo (xsw1 (rv_cat _) (xsw1 (rv_cat _) xsw0)) (by decide) g37) (xKv hq (fun h38 hq e40 => ?_) (fun _ _ q _ => q))
  replace hq := hq e40
  have t41 : tg h26 x0 = 6 := by rw [e27]; exact t25
  have t42 : tg h31 x0 = 6 := by rw [e33]; exact tg_nO_ne e32 f34 t41 (by decide)
  have t43 : tg h38 x0 = 6 := e40.tg t42 (by decide)
  obtain ⟨h44, e45⟩ : ∃ y, y = sR h38 x0 1283 a30 := ⟨_, rfl⟩
  replace hq := hq h44 e45
  refine x_putFR fdX5_26 owX5_init_3 xty_O dX5_init_32 t43 (Or.inl (by rw [t43]; rfl)) rfl e45 ?_
  refine x_aload_n 0 dX5_init_35 rfl ?_
  obtain ⟨g46, g47, hq⟩ := hq
  obtain ⟨a48, e50⟩ : ∃ y, y = nx h44 + 1 := ⟨_, rfl⟩
  obtain ⟨h49, e51⟩ : ∃ y, y = nO h44 7 9 := ⟨_, rfl⟩
  refine x_new' cdX5_9 dX5_init_36 g46 g47 e50 e51 (fun f52 => ?_)
  replace hq := hq a48 h49 e50 e51 f52
  have t53 : tg h49 a48 = 7 := by rw [e51, e50]; exact tg_nO
  refine x_dup dX5_init_39 (rv_cat _) ?_
  refine x_iconst (v := 2) dX5_init_40 (by decide) ?_
  obtain ⟨g54, g55, hq⟩ := hq
  refine x_callI (Yc := YX6_init) (as := [.int 2]) (st := [rv a48, rv x0]) q689 miX6_init (by rw [t53]; decide) rfl dX5_init_41 (xle (xal1 (rv_cat _) (xal1 rfl xal0)) (by decide)) (xfr g54) (xlo (xsw1 (rv_cat _) (xsw1 (rv_cat _) xsw0)) (by decide) g55) (xKv hq (fun h56 hq e58 => ?_) (fun _ _ q _ => q))
  replace hq := hq e58
  refine x_iconst (v := 0) dX5_init_44 (by decide) ?_
  refine x_iconst (v := 1) dX5_init_45 (by decide) ?_
  have t59 : tg h56 a48 = 7 := e58.tg t53 (by decide)
  obtain ⟨g60, g61, hq⟩ := hq
  refine x_callV (Yc := YX6_bounded) (as := [.int 0, .int 1]) (st := [rv x0]) q736 mvX6_bounded t59 rfl dX5_init_46 (xle (xal1 (rv_cat _) (xal1 rfl (xal1 rfl xal0))) (by decide)) (xfr g60) (xlo (xsw1 (rv_cat _) xsw0) (by decide) g61) (xKr hq (fun x63 h62 hq e64 => ?_) (fun _ _ q _ => q))
  replace hq := hq e64
  have t65 : tg h44 x0 = 6 := by rw [e45]; exact t43
  have t66 : tg h49 x0 = 6 := by rw [e51]; exact tg_nO_ne e50 f52 t65 (by decide)
  have t67 : tg h56 x0 = 6 := e58.tg t66 (by decide)
  have t68 : tg h62 x0 = 6 := e64.tg t67 (by decide)
  obtain ⟨h69, e70⟩ : ∃ y, y = sR h62 x0 1284 x63 := ⟨_, rfl⟩
  replace hq := hq h69 e70
  refine x_putFR fdX5_29 owX5_init_4 xty_O dX5_init_49 t68 (Or.inl (by rw [t68]; rfl)) rfl e70 ?_
  refine x_aload_n 0 dX5_init_52 rfl ?_
  obtain ⟨g71, g72, hq⟩ := hq
  obtain ⟨a73, e75⟩ : ∃ y, y = nx h69 + 1 := ⟨_, rfl⟩
  obtain ⟨h74, e76⟩ : ∃ y, y = nO h69 7 9 := ⟨_, rfl⟩
  refine x_new' cdX5_9 dX5_init_53 g71 g72 e75 e76 (fun f77 => ?_)
  replace hq := hq a73 h74 e75 e76 f77
  have t78 : tg h74 a73 = 7 := by rw [e76, e75]; exact tg_nO
  refine x_dup dX5_init_56 (rv_cat _) ?_
  refine x_iconst (v := 3) dX5_init_57 (by decide) ?_
  obtain ⟨g79, g80, hq⟩ := hq
  refine x_callI (Yc := YX6_init) (as := [.int 3]) (st := [rv a73, rv x0]) q689 miX6_init (by rw [t78]; decide) rfl dX5_init_58 (xle (xal1 (rv_cat _) (xal1 rfl xal0)) (by decide)) (xfr g79) (xlo (xsw1 (rv_cat _) (xsw1 (rv_cat _) xsw0)) (by decide) g80) (xKv hq (fun h81 hq e83 => ?_) (fun _ _ q _ => q))
  replace hq := hq e83
  refine x_iconst (v := 0) dX5_init_61 (by decide) ?_
  refine x_bipush (v := 127) dX5_init_62 (by decide) ?_
  have t84 : tg h81 a73 = 7 := e83.tg t78 (by decide)
  obtain ⟨g85, g86, hq⟩ := hq
  refine x_callV (Yc := YX6_bounded) (as := [.int 0, .int 127]) (st := [rv x0]) q736 mvX6_bounded t84 rfl dX5_init_64 (xle (xal1 (rv_cat _) (xal1 rfl (xal1 rfl xal0))) (by decide)) (xfr g85) (xlo (xsw1 (rv_cat _) xsw0) (by decide) g86) (xKr hq (fun x88 h87 hq e89 => ?_) (fun _ _ q _ => q))
  replace hq := hq e89
  have t90 : tg h69 x0 = 6 := by rw [e70]; exact t68
  have t91 : tg h74 x0 = 6 := by rw [e76]; exact tg_nO_ne e75 f77 t90 (by decide)
  have t92 : tg h81 x0 = 6 := e83.tg t91 (by decide)
  have t93 : tg h87 x0 = 6 := e89.tg t92 (by decide)
  obtain ⟨h94, e95⟩ : ∃ y, y = sR h87 x0 1285 x88 := ⟨_, rfl⟩
  replace hq := hq h94 e95
  refine x_putFR fdX5_32 owX5_init_5 xty_O dX5_init_67 t93 (Or.inl (by rw [t93]; rfl)) rfl e95 ?_
  refine x_aload_n 0 dX5_init_70 rfl ?_
  obtain ⟨g96, g97, hq⟩ := hq
  obtain ⟨a98, e100⟩ : ∃ y, y = nx h94 + 1 := ⟨_, rfl⟩
  obtain ⟨h99, e101⟩ : ∃ y, y = nO h94 7 9 := ⟨_, rfl⟩
  refine x_new' cdX5_9 dX5_init_71 g96 g97 e100 e101 (fun f102 => ?_)
  replace hq := hq a98 h99 e100 e101 f102
  have t103 : tg h99 a98 = 7 := by rw [e101, e100]; exact tg_nO
  refine x_dup dX5_init_74 (rv_cat _) ?_
  refine x_bipush (v := 10) dX5_init_75 (by decide) ?_
  obtain ⟨g104, g105, hq⟩ := hq
  refine x_callI (Yc := YX6_init) (as := [.int 10]) (st := [rv a98, rv x0]) q689 miX6_init (by rw [t103]; decide) rfl dX5_init_77 (xle (xal1 (rv_cat _) (xal1 rfl xal0)) (by decide)) (xfr g104) (xlo (xsw1 (rv_cat _) (xsw1 (rv_cat _) xsw0)) (by decide) g105) (xKv hq (fun h106 hq e108 => ?_) (fun _ _ q _ => q))
  replace hq := hq e108
  refine x_aload_n 0 dX5_init_80 rfl ?_
  have t109 : tg h94 x0 = 6 := by rw [e95]; exact t93
  have t110 : tg h99 x0 = 6 := by rw [e101]; exact tg_nO_ne e100 f102 t109 (by decide)
  have t111 : tg h106 x0 = 6 := e108.tg t110 (by decide)
  refine x_get (v := rv (fR h106 x0 1285)) fdX5_32 dX5_init_81 t111 rfl ?_
  have t112 : tg h106 a98 = 7 := e108.tg t103 (by decide)
  obtain ⟨g113, g114, hq⟩ := hq
  refine x_callV (Yc := YX6_of) (as := [rv (fR h106 x0 1285)]) (st := [rv x0]) q740 mvX6_of t112 rfl dX5_init_84 (xle (xal1 (rv_cat _) (xal1 (rv_cat _) xal0)) (by decide)) (xfr g113) (xlo (xsw1 (rv_cat _) xsw0) (by decide) g114) (xKr hq (fun x116 h115 hq e117 => ?_) (fun _ _ q _ => q))
  replace hq := hq e117
  have t118 : tg h115 x0 = 6 := e117.tg t111 (by decide)
  obtain ⟨h119, e120⟩ : ∃ y, y = sR h115 x0 1286 x116 := ⟨_, rfl⟩
  replace hq := hq h119 e120
  refine x_putFR fdX5_39 owX5_init_6 xty_O dX5_init_87 t118 (Or.inl (by rw [t118]; rfl)) rfl e120 ?_
  refine x_aload_n 0 dX5_init_90 rfl ?_
  obtain ⟨g121, g122, hq⟩ := hq
  obtain ⟨a123, e125⟩ : ∃ y, y = nx h119 + 1 := ⟨_, rfl⟩
  obtain ⟨h124, e126⟩ : ∃ y, y = nO h119 7 9 := ⟨_, rfl⟩
  refine x_new' cdX5_9 dX5_init_91 g121 g122 e125 e126 (fun f127 => ?_)
  replace hq := hq a123 h124 e125 e126 f127
  have t128 : tg h124 a123 = 7 := by rw [e126, e125]; exact tg_nO
  refine x_dup dX5_init_94 (rv_cat _) ?_
  refine x_bipush (v := 11) dX5_init_95 (by decide) ?_
  obtain ⟨g129, g130, hq⟩ := hq
  refine x_callI (Yc := YX6_init) (as := [.int 11]) (st := [rv a123, rv x0]) q689 miX6_init (by rw [t128]; decide) rfl dX5_init_97 (xle (xal1 (rv_cat _) (xal1 rfl xal0)) (by decide)) (xfr g129) (xlo (xsw1 (rv_cat _) (xsw1 (rv_cat _) xsw0)) (by decide) g130) (xKv hq (fun h131 hq e133 => ?_) (fun _ _ q _ => q))
  replace hq := hq e133
  have t134 : tg h119 x0 = 6 := by rw [e120]; exact t118
  have t135 : tg h124 x0 = 6 := by rw [e126]; exact tg_nO_ne e125 f127 t134 (by decide)
  have t136 : tg h131 x0 = 6 := e133.tg t135 (by decide)
  obtain ⟨h137, e138⟩ : ∃ y, y = sR h131 x0 1287 a123 := ⟨_, rfl⟩
  replace hq := hq h137 e138
  refine x_putFR fdX5_42 owX5_init_7 xty_O dX5_init_100 t136 (Or.inl (by rw [t136]; rfl)) rfl e138 ?_
  refine x_aload_n 0 dX5_init_103 rfl ?_
  obtain ⟨g139, g140, hq⟩ := hq
  obtain ⟨a141, e143⟩ : ∃ y, y = nx h137 + 1 := ⟨_, rfl⟩
  obtain ⟨h142, e144⟩ : ∃ y, y = nO h137 7 9 := ⟨_, rfl⟩
  refine x_new' cdX5_9 dX5_init_104 g139 g140 e143 e144 (fun f145 => ?_)
  replace hq := hq a141 h142 e143 e144 f145
  have t146 : tg h142 a141 = 7 := by rw [e144, e143]; exact tg_nO
  refine x_dup dX5_init_107 (rv_cat _) ?_
  refine x_bipush (v := 12) dX5_init_108 (by decide) ?_
  obtain ⟨g147, g148, hq⟩ := hq
  refine x_callI (Yc := YX6_init) (as := [.int 12]) (st := [rv a141, rv x0]) q689 miX6_init (by rw [t146]; decide) rfl dX5_init_110 (xle (xal1 (rv_cat _) (xal1 rfl xal0)) (by decide)) (xfr g147) (xlo (xsw1 (rv_cat _) (xsw1 (rv_cat _) xsw0)) (by decide) g148) (xKv hq (fun h149 hq e151 => ?_) (fun _ _ q _ => q))
  replace hq := hq e151
  have t152 : tg h137 x0 = 6 := by rw [e138]; exact t136
  have t153 : tg h142 x0 = 6 := by rw [e144]; exact tg_nO_ne e143 f145 t152 (by decide)
  have t154 : tg h149 x0 = 6 := e151.tg t153 (by decide)
  obtain ⟨h155, e156⟩ : ∃ y, y = sR h149 x0 1288 a141 := ⟨_, rfl⟩
  replace hq := hq h155 e156
  refine x_putFR fdX5_45 owX5_init_8 xty_O dX5_init_113 t154 (Or.inl (by rw [t154]; rfl)) rfl e156 ?_
  refine x_aload_n 0 dX5_init_116 rfl ?_
  obtain ⟨g157, g158, hq⟩ := hq
  obtain ⟨a159, e161⟩ : ∃ y, y = nx h155 + 1 := ⟨_, rfl⟩
  obtain ⟨h160, e162⟩ : ∃ y, y = nO h155 29 3 := ⟨_, rfl⟩
  refine x_new' cdX5_48 dX5_init_117 g157 g158 e161 e162 (fun f163 => ?_)
  replace hq := hq a159 h160 e161 e162 f163
  have t164 : tg h160 a159 = 29 := by rw [e162, e161]; exact tg_nO
  refine x_dup dX5_init_120 (rv_cat _) ?_
  refine x_iconst (v := 2) dX5_init_121 (by decide) ?_
  obtain ⟨g165, g166, hq⟩ := hq
  refine x_callI (Yc := YJ2_init) (as := [.int 2]) (st := [rv a159, rv x0]) q745 miJ2_init (by rw [t164]; decide) rfl dX5_init_122 (xle (xal1 (rv_cat _) (xal1 rfl xal0)) (by decide)) (xfr g165) (xlo (xsw1 (rv_cat _) (xsw1 (rv_cat _) xsw0)) (by decide) g166) (xKv hq (fun h167 hq e169 => ?_) (fun _ _ q _ => q))
  replace hq := hq e169
  have t170 : tg h155 x0 = 6 := by rw [e156]; exact t154
  have t171 : tg h160 x0 = 6 := by rw [e162]; exact tg_nO_ne e161 f163 t170 (by decide)
  have t172 : tg h167 x0 = 6 := e169.tg t171 (by decide)
  obtain ⟨h173, e174⟩ : ∃ y, y = sR h167 x0 1289 a159 := ⟨_, rfl⟩
  replace hq := hq h173 e174
  refine x_putFR fdX5_51 owX5_init_9 xty_O dX5_init_125 t172 (Or.inl (by rw [t172]; rfl)) rfl e174 ?_
  refine x_aload_n 0 dX5_init_128 rfl ?_
  obtain ⟨g175, g176, hq⟩ := hq
  obtain ⟨a177, e179⟩ : ∃ y, y = nx h173 + 1 := ⟨_, rfl⟩
  obtain ⟨h178, e180⟩ : ∃ y, y = nO h173 29 3 := ⟨_, rfl⟩
  refine x_new' cdX5_48 dX5_init_129 g175 g176 e179 e180 (fun f181 => ?_)
  replace hq := hq a177 h178 e179 e180 f181
  have t182 : tg h178 a177 = 29 := by rw [e180, e179]; exact tg_nO
  refine x_dup dX5_init_132 (rv_cat _) ?_
  refine x_iconst (v := 2) dX5_init_133 (by decide) ?_
  obtain ⟨g183, g184, hq⟩ := hq
  refine x_callI (Yc := YJ2_init) (as := [.int 2]) (st := [rv a177, rv x0]) q745 miJ2_init (by rw [t182]; decide) rfl dX5_init_134 (xle (xal1 (rv_cat _) (xal1 rfl xal0)) (by decide)) (xfr g183) (xlo (xsw1 (rv_cat _) (xsw1 (rv_cat _) xsw0)) (by decide) g184) (xKv hq (fun h185 hq e187 => ?_) (fun _ _ q _ => q))
  replace hq := hq e187
  have t188 : tg h173 x0 = 6 := by rw [e174]; exact t172
  have t189 : tg h178 x0 = 6 := by rw [e180]; exact tg_nO_ne e179 f181 t188 (by decide)
  have t190 : tg h185 x0 = 6 := e187.tg t189 (by decide)
  obtain ⟨h191, e192⟩ : ∃ y, y = sR h185 x0 1290 a177 := ⟨_, rfl⟩
  replace hq := hq h191 e192
  refine x_putFR fdX5_55 owX5_init_10 xty_O dX5_init_137 t190 (Or.inl (by rw [t190]; rfl)) rfl e192 ?_
  refine x_aload_n 0 dX5_init_140 rfl ?_
  refine x_aload_n 1 dX5_init_141 rfl ?_
  have t193 : tg h191 x0 = 6 := by rw [e192]; exact t190
  obtain ⟨h194, e195⟩ : ∃ y, y = sR h191 x0 1280 x1 := ⟨_, rfl⟩
  replace hq := hq h194 e195
  refine x_putFR fdX5_58 owX5_init_0 xty_O dX5_init_142 t193 (Or.inl (by rw [t193]; rfl)) rfl e195 ?_
  refine x_aload_n 0 dX5_init_145 rfl ?_
  refine x_aload_n 2 dX5_init_146 rfl ?_
  have t196 : tg h194 x0 = 6 := by rw [e195]; exact t193
  obtain ⟨h197, e198⟩ : ∃ y, y = sR h194 x0 1281 x2 := ⟨_, rfl⟩
  replace hq := hq h197 e198
  refine x_putFR fdX5_62 owX5_init_1 xty_O dX5_init_147 t196 (Or.inl (by rw [t196]; rfl)) rfl e198 ?_
  refine x_aload_n 0 dX5_init_150 rfl ?_
  have t199 : tg h197 x0 = 6 := by rw [e198]; exact t196
  refine x_get (v := rv (fR h197 x0 1286)) fdX5_39 dX5_init_151 t199 rfl ?_
  refine x_iconst (v := 2) dX5_init_154 (by decide) ?_
  obtain ⟨g200, hq⟩ := hq
  obtain ⟨h201, e202⟩ : ∃ y, y = sI h197 (fR h197 x0 1286) 1543 2 := ⟨_, rfl⟩
  replace hq := hq h201 e202
  refine x_putNI gfX5_66 xty_I1 dX5_init_155 g200 (Or.inl (by rw [g200]; rfl)) xnI rfl e202 ?_
  refine x_aload_n 0 dX5_init_158 rfl ?_
  have t203 : tg h201 x0 = 6 := by rw [e202]; exact t199
  obtain ⟨g204, g205, hq⟩ := hq
  refine x_callV (Yc := YX5_begin) (as := []) (st := []) q746 mvX5_begin t203 rfl dX5_init_159 (xle (xal1 (rv_cat _) xal0) (by decide)) (xfr g204) (xlo xsw0 (by decide) g205) (xKv hq (fun h206 hq e208 => ?_) (fun _ _ q _ => q))
  replace hq := hq e208
  refine x_aload_n 0 dX5_init_162 rfl ?_
  refine x_aload_n 0 dX5_init_163 rfl ?_
  have t209 : tg h206 x0 = 6 := e208.tg t203 (by decide)
  refine x_get (v := rv (fR h206 x0 1293)) fdX5_73 dX5_init_164 t209 rfl ?_
  obtain ⟨h210, e211⟩ : ∃ y, y = sR h206 x0 1292 (fR h206 x0 1293) := ⟨_, rfl⟩
  replace hq := hq h210 e211
  refine x_putFR fdX5_77 owX5_init_12 xty_O dX5_init_167 t209 (Or.inl (by rw [t209]; rfl)) rfl e211 ?_
  exact x_vret rfl dX5_init_170 hq
theorem rX5_init {G : xG} {fr lo : Nat} {x0 : Nat} {x1 : Nat} {x2 : Nat} {h : xH} {Q : Outcome → xH → Prop} (hq : bX5_init G fr lo x0 x1 x2 h Q) : xR G YX5_init fr lo [rv x0, rv x1, rv x2] h Q := by
  show xP _ _ _ _ _ (lv_args 0 _) _ _ _
  rw [show lv_args 0 [rv x0, rv x1, rv x2] = [(0, rv x0), (1, rv x1), (2, rv x2)] from (xla1 (rv_cat _) (xla1 (rv_cat _) (xla1 (rv_cat _) xla0)))]
  exact uX5_init hq
set_option maxRecDepth 100000 in
theorem dX5_begin_0 : decode cX5_begin 0 = .ok (.aload_n 0, 1) := by decide +kernel
set_option maxRecDepth 100000 in
theorem dX5_begin_1 : decode cX5_begin 1 = .ok (.new 116, 3) := by decide +kernel
set_option maxRecDepth 100000 in
theorem dX5_begin_4 : decode cX5_begin 4 = .ok (.dup, 1) := by decide +kernel
set_option maxRecDepth 100000 in
theorem dX5_begin_5 : decode cX5_begin 5 = .ok (.aconst_null, 1) := by decide +kernel
set_option maxRecDepth 100000 in
theorem dX5_begin_6 : decode cX5_begin 6 = .ok (.invokespecial 127, 3) := by decide +kernel
set_option maxRecDepth 100000 in
theorem dX5_begin_9 : decode cX5_begin 9 = .ok (.putfield 73, 3) := by decide +kernel
set_option maxRecDepth 100000 in
theorem dX5_begin_12 : decode cX5_begin 12 = .ok (.aload_n 0, 1) := by decide +kernel
set_option maxRecDepth 100000 in
theorem dX5_begin_13 : decode cX5_begin 13 = .ok (.ldc 130, 2) := by decide +kernel
set_option maxRecDepth 100000 in
theorem dX5_begin_15 : decode cX5_begin 15 = .ok (.iconst 1, 1) := by decide +kernel
set_option maxRecDepth 100000 in
theorem dX5_begin_16 : decode cX5_begin 16 = .ok (.aload_n 0, 1) := by decide +kernel
set_option maxRecDepth 100000 in
theorem dX5_begin_17 : decode cX5_begin 17 = .ok (.getfield 20, 3) := by decide +kernel
set_option maxRecDepth 100000 in
theorem dX5_begin_20 : decode cX5_begin 20 = .ok (.iconst 0, 1) := by decide +kernel
set_option maxRecDepth 100000 in
theorem dX5_begin_21 : decode cX5_begin 21 = .ok (.invokevirtual 131, 3) := by decide +kernel
set_option maxRecDepth 100000 in
theorem dX5_begin_24 : decode cX5_begin 24 = .ok (.aload_n 0, 1) := by decide +kernel
set_option maxRecDepth 100000 in
theorem dX5_begin_25 : decode cX5_begin 25 = .ok (.ldc 135, 2) := by decide +kernel
set_option maxRecDepth 100000 in
theorem dX5_begin_27 : decode cX5_begin 27 = .ok (.iconst 1, 1) := by decide +kernel
set_option maxRecDepth 100000 in
theorem dX5_begin_28 : decode cX5_begin 28 = .ok (.aload_n 0, 1) := by decide +kernel
set_option maxRecDepth 100000 in
theorem dX5_begin_29 : decode cX5_begin 29 = .ok (.getfield 26, 3) := by decide +kernel
set_option maxRecDepth 100000 in
theorem dX5_begin_32 : decode cX5_begin 32 = .ok (.iconst 0, 1) := by decide +kernel
set_option maxRecDepth 100000 in
theorem dX5_begin_33 : decode cX5_begin 33 = .ok (.invokevirtual 131, 3) := by decide +kernel
set_option maxRecDepth 100000 in
theorem dX5_begin_36 : decode cX5_begin 36 = .ok (.aload_n 0, 1) := by decide +kernel
set_option maxRecDepth 100000 in
theorem dX5_begin_37 : decode cX5_begin 37 = .ok (.ldc 136, 2) := by decide +kernel
set_option maxRecDepth 100000 in
theorem dX5_begin_39 : decode cX5_begin 39 = .ok (.iconst 1, 1) := by decide +kernel
set_option maxRecDepth 100000 in
theorem dX5_begin_40 : decode cX5_begin 40 = .ok (.aload_n 0, 1) := by decide +kernel
set_option maxRecDepth 100000 in
theorem dX5_begin_41 : decode cX5_begin 41 = .ok (.getfield 29, 3) := by decide +kernel
set_option maxRecDepth 100000 in
theorem dX5_begin_44 : decode cX5_begin 44 = .ok (.iconst 0, 1) := by decide +kernel
set_option maxRecDepth 100000 in
theorem dX5_begin_45 : decode cX5_begin 45 = .ok (.invokevirtual 131, 3) := by decide +kernel
set_option maxRecDepth 100000 in
theorem dX5_begin_48 : decode cX5_begin 48 = .ok (.aload_n 0, 1) := by decide +kernel
set_option maxRecDepth 100000 in
theorem dX5_begin_49 : decode cX5_begin 49 = .ok (.ldc 138, 2) := by decide +kernel
set_option maxRecDepth 100000 in
theorem dX5_begin_51 : decode cX5_begin 51 = .ok (.iconst 1, 1) := by decide +kernel
set_option maxRecDepth 100000 in
theorem dX5_begin_52 : decode cX5_begin 52 = .ok (.aload_n 0, 1) := by decide +kernel
set_option maxRecDepth 100000 in
theorem dX5_begin_53 : decode cX5_begin 53 = .ok (.getfield 32, 3) := by decide +kernel
set_option maxRecDepth 100000 in
theorem dX5_begin_56 : decode cX5_begin 56 = .ok (.iconst 0, 1) := by decide +kernel
set_option maxRecDepth 100000 in
theorem dX5_begin_57 : decode cX5_begin 57 = .ok (.invokevirtual 131, 3) := by decide +kernel
set_option maxRecDepth 100000 in
theorem dX5_begin_60 : decode cX5_begin 60 = .ok (.aload_n 0, 1) := by decide +kernel
set_option maxRecDepth 100000 in
theorem dX5_begin_61 : decode cX5_begin 61 = .ok (.ldc 140, 2) := by decide +kernel
set_option maxRecDepth 100000 in
theorem dX5_begin_63 : decode cX5_begin 63 = .ok (.iconst 1, 1) := by decide +kernel
set_option maxRecDepth 100000 in
theorem dX5_begin_64 : decode cX5_begin 64 = .ok (.aload_n 0, 1) := by decide +kernel
set_option maxRecDepth 100000 in
theorem dX5_begin_65 : decode cX5_begin 65 = .ok (.getfield 39, 3) := by decide +kernel
set_option maxRecDepth 100000 in
theorem dX5_begin_68 : decode cX5_begin 68 = .ok (.iconst 0, 1) := by decide +kernel
set_option maxRecDepth 100000 in
theorem dX5_begin_69 : decode cX5_begin 69 = .ok (.invokevirtual 131, 3) := by decide +kernel
set_option maxRecDepth 100000 in
theorem dX5_begin_72 : decode cX5_begin 72 = .ok (.aload_n 0, 1) := by decide +kernel
set_option maxRecDepth 100000 in
theorem dX5_begin_73 : decode cX5_begin 73 = .ok (.getfield 73, 3) := by decide +kernel
set_option maxRecDepth 100000 in
theorem dX5_begin_76 : decode cX5_begin 76 = .ok (.getfield 115, 3) := by decide +kernel
set_option maxRecDepth 100000 in
theorem dX5_begin_79 : decode cX5_begin 79 = .ok (.aload_n 0, 1) := by decide +kernel
set_option maxRecDepth 100000 in
theorem dX5_begin_80 : decode cX5_begin 80 = .ok (.ldc 141, 2) := by decide +kernel
set_option maxRecDepth 100000 in
theorem dX5_begin_82 : decode cX5_begin 82 = .ok (.aload_n 0, 1) := by decide +kernel
set_option maxRecDepth 100000 in
theorem dX5_begin_83 : decode cX5_begin 83 = .ok (.getfield 29, 3) := by decide +kernel
set_option maxRecDepth 100000 in
theorem dX5_begin_86 : decode cX5_begin 86 = .ok (.iconst 0, 1) := by decide +kernel
set_option maxRecDepth 100000 in
theorem dX5_begin_87 : decode cX5_begin 87 = .ok (.invokevirtual 143, 3) := by decide +kernel
set_option maxRecDepth 100000 in
theorem dX5_begin_90 : decode cX5_begin 90 = .ok (.invokevirtual 120, 3) := by decide +kernel
set_option maxRecDepth 100000 in
theorem dX5_begin_93 : decode cX5_begin 93 = .ok (.pop, 1) := by decide +kernel
set_option maxRecDepth 100000 in
theorem dX5_begin_94 : decode cX5_begin 94 = .ok (.aload_n 0, 1) := by decide +kernel
set_option maxRecDepth 100000 in
theorem dX5_begin_95 : decode cX5_begin 95 = .ok (.getfield 73, 3) := by decide +kernel
set_option maxRecDepth 100000 in
theorem dX5_begin_98 : decode cX5_begin 98 = .ok (.getfield 115, 3) := by decide +kernel
set_option maxRecDepth 100000 in
theorem dX5_begin_101 : decode cX5_begin 101 = .ok (.aload_n 0, 1) := by decide +kernel
set_option maxRecDepth 100000 in
theorem dX5_begin_102 : decode cX5_begin 102 = .ok (.ldc 147, 2) := by decide +kernel
set_option maxRecDepth 100000 in
theorem dX5_begin_104 : decode cX5_begin 104 = .ok (.aload_n 0, 1) := by decide +kernel
set_option maxRecDepth 100000 in
theorem dX5_begin_105 : decode cX5_begin 105 = .ok (.getfield 29, 3) := by decide +kernel
set_option maxRecDepth 100000 in
theorem dX5_begin_108 : decode cX5_begin 108 = .ok (.iconst 1, 1) := by decide +kernel
set_option maxRecDepth 100000 in
theorem dX5_begin_109 : decode cX5_begin 109 = .ok (.invokevirtual 143, 3) := by decide +kernel
set_option maxRecDepth 100000 in
theorem dX5_begin_112 : decode cX5_begin 112 = .ok (.invokevirtual 120, 3) := by decide +kernel
set_option maxRecDepth 100000 in
theorem dX5_begin_115 : decode cX5_begin 115 = .ok (.pop, 1) := by decide +kernel
set_option maxRecDepth 100000 in
theorem dX5_begin_116 : decode cX5_begin 116 = .ok (.aload_n 0, 1) := by decide +kernel
set_option maxRecDepth 100000 in
theorem dX5_begin_117 : decode cX5_begin 117 = .ok (.getfield 73, 3) := by decide +kernel
set_option maxRecDepth 100000 in
theorem dX5_begin_120 : decode cX5_begin 120 = .ok (.getfield 115, 3) := by decide +kernel
set_option maxRecDepth 100000 in
theorem dX5_begin_123 : decode cX5_begin 123 = .ok (.aload_n 0, 1) := by decide +kernel
set_option maxRecDepth 100000 in
theorem dX5_begin_124 : decode cX5_begin 124 = .ok (.ldc 149, 2) := by decide +kernel
set_option maxRecDepth 100000 in
theorem dX5_begin_126 : decode cX5_begin 126 = .ok (.aload_n 0, 1) := by decide +kernel
set_option maxRecDepth 100000 in
theorem dX5_begin_127 : decode cX5_begin 127 = .ok (.getfield 20, 3) := by decide +kernel
set_option maxRecDepth 100000 in
theorem dX5_begin_130 : decode cX5_begin 130 = .ok (.ldc 15, 2) := by decide +kernel
set_option maxRecDepth 100000 in
theorem dX5_begin_132 : decode cX5_begin 132 = .ok (.invokevirtual 143, 3) := by decide +kernel
set_option maxRecDepth 100000 in
theorem dX5_begin_135 : decode cX5_begin 135 = .ok (.invokevirtual 120, 3) := by decide +kernel
set_option maxRecDepth 100000 in
theorem dX5_begin_138 : decode cX5_begin 138 = .ok (.pop, 1) := by decide +kernel
set_option maxRecDepth 100000 in
theorem dX5_begin_139 : decode cX5_begin 139 = .ok (.aload_n 0, 1) := by decide +kernel
set_option maxRecDepth 100000 in
theorem dX5_begin_140 : decode cX5_begin 140 = .ok (.ldc 151, 2) := by decide +kernel
set_option maxRecDepth 100000 in
theorem dX5_begin_142 : decode cX5_begin 142 = .ok (.iconst 4, 1) := by decide +kernel
set_option maxRecDepth 100000 in
theorem dX5_begin_143 : decode cX5_begin 143 = .ok (.aconst_null, 1) := by decide +kernel
set_option maxRecDepth 100000 in
theorem dX5_begin_144 : decode cX5_begin 144 = .ok (.iconst 0, 1) := by decide +kernel
set_option maxRecDepth 100000 in
theorem dX5_begin_145 : decode cX5_begin 145 = .ok (.invokevirtual 131, 3) := by decide +kernel
set_option maxRecDepth 100000 in
theorem dX5_begin_148 : decode cX5_begin 148 = .ok (.aload_n 0, 1) := by decide +kernel
set_option maxRecDepth 100000 in
theorem dX5_begin_149 : decode cX5_begin 149 = .ok (.ldc 153, 2) := by decide +kernel
set_option maxRecDepth 100000 in
theorem dX5_begin_151 : decode cX5_begin 151 = .ok (.iconst 4, 1) := by decide +kernel
set_option maxRecDepth 100000 in
theorem dX5_begin_152 : decode cX5_begin 152 = .ok (.aconst_null, 1) := by decide +kernel
set_option maxRecDepth 100000 in
theorem dX5_begin_153 : decode cX5_begin 153 = .ok (.bipush 10, 2) := by decide +kernel
set_option maxRecDepth 100000 in
theorem dX5_begin_155 : decode cX5_begin 155 = .ok (.invokevirtual 131, 3) := by decide +kernel
set_option maxRecDepth 100000 in
theorem dX5_begin_158 : decode cX5_begin 158 = .ok (.return_, 1) := by decide +kernel
set_option maxRecDepth 100000 in
def bX5_begin (G : xG) (fr lo : Nat) (x0 : Nat) (h : xH) (Q : Outcome → xH → Prop) : Prop := nx h + 1 ≤ xGN G ∧ us h + 4 ≤ xGU G ∧ (∀ (a3 : Nat) (h4 : xH), a3 = nx h + 1 → h4 = nO h 8 4 → xfresh h a3 → 1 ≤ fr ∧ 15 ≤ lo ∧ xRv G YX7_init (fr - 1) (lo - 15) [rv a3, rv 0] h4 (fun h11 => xext h4 h11 → tg h11 x0 = 6 ∧ (∀ h15 : xH, h15 = sR h11 x0 1293 a3 → 1 ≤ fr ∧ 20 ≤ lo ∧ xRv G YX5_there (fr - 1) (lo - 20) [rv x0, rv (tx G 35), .int 1, rv (fR h15 x0 1282), .int 0] h15 (fun h20 => xext h15 h20 → 1 ≤ fr ∧ 20 ≤ lo ∧ xRv G YX5_there (fr - 1) (lo - 20) [rv x0, rv (tx G 36), .int 1, rv (fR h20 x0 1283), .int 0] h20 (fun h26 => xext h20 h26 → 1 ≤ fr ∧ 20 ≤ lo ∧ xRv G YX5_there (fr - 1) (lo - 20) [rv x0, rv (tx G 37), .int 1, rv (fR h26 x0 1284), .int 0] h26 (fun h32 => xext h26 h32 → 1 ≤ fr ∧ 20 ≤ lo ∧ xRv G YX5_there (fr - 1) (lo - 20) [rv x0, rv (tx G 38), .int 1, rv (fR h32 x0 1285), .int 0] h32 (fun h38 => xext h32 h38 → 1 ≤ fr ∧ 20 ≤ lo ∧ xRv G YX5_there (fr - 1) (lo - 20) [rv x0, rv (tx G 39), .int 1, rv (fR h38 x0 1286), .int 0] h38 (fun h44 => xext h38 h44 → tg h44 (fR h44 x0 1293) = 8 ∧ 1 ≤ fr ∧ 17 ≤ lo ∧ xRr G YX5_valueItem (fr - 1) (lo - 17) [rv x0, rv (tx G 40), rv (fR h44 x0 1284), .int 0] h44 (fun x52 h51 => xext h44 h51 → tg h51 (fR h44 (fR h44 x0 1293) 1792) = 29 ∧ 1 ≤ fr ∧ 13 ≤ lo ∧ xRi G YJ2_add (fr - 1) (lo - 13) [rv (fR h44 (fR h44 x0 1293) 1792), rv x52] h51 (fun x58 h57 => xext h51 h57 → tg h57 (fR h57 x0 1293) = 8 ∧ 1 ≤ fr ∧ 17 ≤ lo ∧ xRr G YX5_valueItem (fr - 1) (lo - 17) [rv x0, rv (tx G 41), rv (fR h57 x0 1284), .int 1] h57 (fun x66 h65 => xext h57 h65 → tg h65 (fR h57 (fR h57 x0 1293) 1792) = 29 ∧ 1 ≤ fr ∧ 13 ≤ lo ∧ xRi G YJ2_add (fr - 1) (lo - 13) [rv (fR h57 (fR h57 x0 1293) 1792), rv x66] h65 (fun x72 h71 => xext h65 h71 → tg h71 (fR h71 x0 1293) = 8 ∧ 1 ≤ fr ∧ 17 ≤ lo ∧ xRr G YX5_valueItem (fr - 1) (lo - 17) [rv x0, rv (tx G 42), rv (fR h71 x0 1282), .int 2147483647] h71 (fun x80 h79 => xext h71 h79 → tg h79 (fR h71 (fR h71 x0 1293) 1792) = 29 ∧ 1 ≤ fr ∧ 13 ≤ lo ∧ xRi G YJ2_add (fr - 1) (lo - 13) [rv (fR h71 (fR h71 x0 1293) 1792), rv x80] h79 (fun x86 h85 => xext h79 h85 → 1 ≤ fr ∧ 20 ≤ lo ∧ xRv G YX5_there (fr - 1) (lo - 20) [rv x0, rv (tx G 43), .int 4, rv 0, .int 0] h85 (fun h92 => xext h85 h92 → 1 ≤ fr ∧ 20 ≤ lo ∧ xRv G YX5_there (fr - 1) (lo - 20) [rv x0, rv (tx G 44), .int 4, rv 0, .int 10] h92 (fun h98 => xext h92 h98 → Q (.returned none) h98) (fun r h2 => Q (.threw r) h2)) (fun r h2 => Q (.threw r) h2)) (fun r h2 => Q (.threw r) h2)) (fun r h2 => Q (.threw r) h2)) (fun r h2 => Q (.threw r) h2)) (fun r h2 => Q (.threw r) h2)) (fun r h2 => Q (.threw r) h2)) (fun r h2 => Q (.threw r) h2)) (fun r h2 => Q (.threw r) h2)) (fun r h2 => Q (.threw r) h2)) (fun r h2 => Q (.threw r) h2)) (fun r h2 => Q (.threw r) h2)) (fun r h2 => Q (.threw r) h2))) (fun r h2 => Q (.threw r) h2))
set_option maxRecDepth 100000 in
theorem uX5_begin {G : xG} {fr lo : Nat} {x0 : Nat} {h : xH} {Q : Outcome → xH → Prop} (hq : bX5_begin G fr lo x0 h Q) : xP G YX5_begin fr lo 0 [(0, rv x0)] [] h Q := by
  unfold bX5_begin at hq
  refine x_aload_n 0 dX5_begin_0 rfl ?_
  obtain ⟨g1, g2, hq⟩ := hq
  obtain ⟨a3, e5⟩ : ∃ y, y = nx h + 1 := ⟨_, rfl⟩
  obtain ⟨h4, e6⟩ : ∃ y, y = nO h 8 4 := ⟨_, rfl⟩
  refine x_new' cdX5_116 dX5_begin_1 g1 g2 e5 e6 (fun f7 => ?_)
  replace hq := hq a3 h4 e5 e6 f7
  have t8 : tg h4 a3 = 8 := by rw [e6, e5]; exact tg_nO
  refine x_dup dX5_begin_4 (rv_cat _) ?_
  refine x_null dX5_begin_5 ?_
  obtain ⟨g9, g10, hq⟩ := hq
  refine x_callI (Yc := YX7_init) (as := [rv 0]) (st := [rv a3, rv x0]) q752 miX7_init (by rw [t8]; decide) rfl dX5_begin_6 (xle (xal1 (rv_cat _) (xal1 (rv_cat _) xal0)) (by decide)) (xfr g9) (xlo (xsw1 (rv_cat _) (xsw1 (rv_cat _) xsw0)) (by decide) g10) (xKv hq (fun h11 hq e13 => ?_) (fun _ _ q _ => q))
  replace hq := hq e13
  obtain ⟨g14, hq⟩ := hq
  obtain ⟨h15, e16⟩ : ∃ y, y = sR h11 x0 1293 a3 := ⟨_, rfl⟩
  replace hq := hq h15 e16
  refine x_putR fdX5_73 xty_O dX5_begin_9 g14 (Or.inl (by rw [g14]; rfl)) rfl e16 ?_
  refine x_aload_n 0 dX5_begin_12 rfl ?_
  refine x_ldcS (n := 35) 35 srX5_130 dX5_begin_13 ?_
  refine x_iconst (v := 1) dX5_begin_15 (by decide) ?_
  refine x_aload_n 0 dX5_begin_16 rfl ?_
  have t17 : tg h15 x0 = 6 := by rw [e16]; exact g14
  refine x_get (v := rv (fR h15 x0 1282)) fdX5_20 dX5_begin_17 t17 rfl ?_
  refine x_iconst (v := 0) dX5_begin_20 (by decide) ?_
  obtain ⟨g18, g19, hq⟩ := hq
  refine x_callV (Yc := YX5_there) (as := [rv (tx G 35), .int 1, rv (fR h15 x0 1282), .int 0]) (st := []) q774 mvX5_there t17 rfl dX5_begin_21 (xle (xal1 (rv_cat _) (xal1 (rv_cat _) (xal1 rfl (xal1 (rv_cat _) (xal1 rfl xal0))))) (by decide)) (xfr g18) (xlo xsw0 (by decide) g19) (xKv hq (fun h20 hq e22 => ?_) (fun _ _ q _ => q))
  replace hq := hq e22
  refine x_aload_n 0 dX5_begin_24 rfl ?_
  refine x_ldcS (n := 36) 36 srX5_135 dX5_begin_25 ?_
  refine x_iconst (v := 1) dX5_begin_27 (by decide) ?_
  refine x_aload_n 0 dX5_begin_28 rfl ?_
  have t23 : tg h20 x0 = 6 := e22.tg t17 (by decide)
  refine x_get (v := rv (fR h20 x0 1283)) fdX5_26 dX5_begin_29 t23 rfl ?_
  refine x_iconst (v := 0) dX5_begin_32 (by decide) ?_
  obtain ⟨g24, g25, hq⟩ := hq
  refine x_callV (Yc := YX5_there) (as := [rv (tx G 36), .int 1, rv (fR h20 x0 1283), .int 0]) (st := []) q774 mvX5_there t23 rfl dX5_begin_33 (xle (xal1 (rv_cat _) (xal1 (rv_cat _) (xal1 rfl (xal1 (rv_cat _) (xal1 rfl xal0))))) (by decide)) (xfr g24) (xlo xsw0 (by decide) g25) (xKv hq (fun h26 hq e28 => ?_) (fun _ _ q _ => q))
  replace hq := hq e28
  refine x_aload_n 0 dX5_begin_36 rfl ?_
  refine x_ldcS (n := 37) 37 srX5_136 dX5_begin_37 ?_
  refine x_iconst (v := 1) dX5_begin_39 (by decide) ?_
  refine x_aload_n 0 dX5_begin_40 rfl ?_
  have t29 : tg h26 x0 = 6 := e28.tg t23 (by decide)
  refine x_get (v := rv (fR h26 x0 1284)) fdX5_29 dX5_begin_41 t29 rfl ?_
  refine x_iconst (v := 0) dX5_begin_44 (by decide) ?_
  obtain ⟨g30, g31, hq⟩ := hq
  refine x_callV (Yc := YX5_there) (as := [rv (tx G 37), .int 1, rv (fR h26 x0 1284), .int 0]) (st := []) q774 mvX5_there t29 rfl dX5_begin_45 (xle (xal1 (rv_cat _) (xal1 (rv_cat _) (xal1 rfl (xal1 (rv_cat _) (xal1 rfl xal0))))) (by decide)) (xfr g30) (xlo xsw0 (by decide) g31) (xKv hq (fun h32 hq e34 => ?_) (fun _ _ q _ => q))
  replace hq := hq e34
  refine x_aload_n 0 dX5_begin_48 rfl ?_
  refine x_ldcS (n := 38) 38 srX5_138 dX5_begin_49 ?_
  refine x_iconst (v := 1) dX5_begin_51 (by decide) ?_
  refine x_aload_n 0 dX5_begin_52 rfl ?_
  have t35 : tg h32 x0 = 6 := e34.tg t29 (by decide)
  refine x_get (v := rv (fR h32 x0 1285)) fdX5_32 dX5_begin_53 t35 rfl ?_
  refine x_iconst (v := 0) dX5_begin_56 (by decide) ?_
  obtain ⟨g36, g37, hq⟩ := hq
  refine x_callV (Yc := YX5_there) (as := [rv (tx G 38), .int 1, rv (fR h32 x0 1285), .int 0]) (st := []) q774 mvX5_there t35 rfl dX5_begin_57 (xle (xal1 (rv_cat _) (xal1 (rv_cat _) (xal1 rfl (xal1 (rv_cat _) (xal1 rfl xal0))))) (by decide)) (xfr g36) (xlo xsw0 (by decide) g37) (xKv hq (fun h38 hq e40 => ?_) (fun _ _ q _ => q))
  replace hq := hq e40
  refine x_aload_n 0 dX5_begin_60 rfl ?_
  refine x_ldcS (n := 39) 39 srX5_140 dX5_begin_61 ?_
  refine x_iconst (v := 1) dX5_begin_63 (by decide) ?_
  refine x_aload_n 0 dX5_begin_64 rfl ?_
  have t41 : tg h38 x0 = 6 := e40.tg t35 (by decide)
  refine x_get (v := rv (fR h38 x0 1286)) fdX5_39 dX5_begin_65 t41 rfl ?_
  refine x_iconst (v := 0) dX5_begin_68 (by decide) ?_
  obtain ⟨g42, g43, hq⟩ := hq
  refine x_callV (Yc := YX5_there) (as := [rv (tx G 39), .int 1, rv (fR h38 x0 1286), .int 0]) (st := []) q774 mvX5_there t41 rfl dX5_begin_69 (xle (xal1 (rv_cat _) (xal1 (rv_cat _) (xal1 rfl (xal1 (rv_cat _) (xal1 rfl xal0))))) (by decide)) (xfr g42) (xlo xsw0 (by decide) g43) (xKv hq (fun h44 hq e46 => ?_) (fun _ _ q _ => q))
  replace hq := hq e46
  refine x_aload_n 0 dX5_begin_72 rfl ?_
  have t47 : tg h44 x0 = 6 := e46.tg t41 (by decide)
  refine x_get (v := rv (fR h44 x0 1293)) fdX5_73 dX5_begin_73 t47 rfl ?_
  obtain ⟨g48, hq⟩ := hq
  refine x_getN (v := rv (fR h44 (fR h44 x0 1293) 1792)) gfX5_115 dX5_begin_76 g48 rfl ?_
  refine x_aload_n 0 dX5_begin_79 rfl ?_
  refine x_ldcS (n := 40) 40 srX5_141 dX5_begin_80 ?_
  refine x_aload_n 0 dX5_begin_82 rfl ?_
  refine x_get (v := rv (fR h44 x0 1284)) fdX5_29 dX5_begin_83 t47 rfl ?_
  refine x_iconst (v := 0) dX5_begin_86 (by decide) ?_
  obtain ⟨g49, g50, hq⟩ := hq
  refine x_callV (Yc := YX5_valueItem) (as := [rv (tx G 40), rv (fR h44 x0 1284), .int 0]) (st := [rv (fR h44 (fR h44 x0 1293) 1792)]) q1099 mvX5_valueItem t47 rfl dX5_begin_87 (xle (xal1 (rv_cat _) (xal1 (rv_cat _) (xal1 (rv_cat _) (xal1 rfl xal0)))) (by decide)) (xfr g49) (xlo (xsw1 (rv_cat _) xsw0) (by decide) g50) (xKr hq (fun x52 h51 hq e53 => ?_) (fun _ _ q _ => q))
  replace hq := hq e53
  obtain ⟨g54, hq⟩ := hq
  obtain ⟨g55, g56, hq⟩ := hq
  refine x_callV (Yc := YJ2_add) (as := [rv x52]) (st := []) q1009 mvJ2_add g54 rfl dX5_begin_90 (xle (xal1 (rv_cat _) (xal1 (rv_cat _) xal0)) (by decide)) (xfr g55) (xlo xsw0 (by decide) g56) (xKi hq (fun x58 h57 hq e59 => ?_) (fun _ _ q _ => q))
  replace hq := hq e59
  refine x_pop dX5_begin_93 rfl ?_
  refine x_aload_n 0 dX5_begin_94 rfl ?_
  have t60 : tg h51 x0 = 6 := e53.tg t47 (by decide)
  have t61 : tg h57 x0 = 6 := e59.tg t60 (by decide)
  refine x_get (v := rv (fR h57 x0 1293)) fdX5_73 dX5_begin_95 t61 rfl ?_
  obtain ⟨g62, hq⟩ := hq
  refine x_getN (v := rv (fR h57 (fR h57 x0 1293) 1792)) gfX5_115 dX5_begin_98 g62 rfl ?_
  refine x_aload_n 0 dX5_begin_101 rfl ?_
  refine x_ldcS (n := 41) 41 srX5_147 dX5_begin_102 ?_
  refine x_aload_n 0 dX5_begin_104 rfl ?_
  refine x_get (v := rv (fR h57 x0 1284)) fdX5_29 dX5_begin_105 t61 rfl ?_
  refine x_iconst (v := 1) dX5_begin_108 (by decide) ?_
  obtain ⟨g63, g64, hq⟩ := hq
  refine x_callV (Yc := YX5_valueItem) (as := [rv (tx G 41), rv (fR h57 x0 1284), .int 1]) (st := [rv (fR h57 (fR h57 x0 1293) 1792)]) q1099 mvX5_valueItem t61 rfl dX5_begin_109 (xle (xal1 (rv_cat _) (xal1 (rv_cat _) (xal1 (rv_cat _) (xal1 rfl xal0)))) (by decide)) (xfr g63) (xlo (xsw1 (rv_cat _) xsw0) (by decide) g64) (xKr hq (fun x66 h65 hq e67 => ?_) (fun _ _ q _ => q))
  replace hq := hq e67
  obtain ⟨g68, hq⟩ := hq
  obtain ⟨g69, g70, hq⟩ := hq
  refine x_callV (Yc := YJ2_add) (as := [rv x66]) (st := []) q1009 mvJ2_add g68 rfl dX5_begin_112 (xle (xal1 (rv_cat _) (xal1 (rv_cat _) xal0)) (by decide)) (xfr g69) (xlo xsw0 (by decide) g70) (xKi hq (fun x72 h71 hq e73 => ?_) (fun _ _ q _ => q))
  replace hq := hq e73
  refine x_pop dX5_begin_115 rfl ?_
  refine x_aload_n 0 dX5_begin_116 rfl ?_
  have t74 : tg h65 x0 = 6 := e67.tg t61 (by decide)
  have t75 : tg h71 x0 = 6 := e73.tg t74 (by decide)
  refine x_get (v := rv (fR h71 x0 1293)) fdX5_73 dX5_begin_117 t75 rfl ?_
  obtain ⟨g76, hq⟩ := hq
  refine x_getN (v := rv (fR h71 (fR h71 x0 1293) 1792)) gfX5_115 dX5_begin_120 g76 rfl ?_
  refine x_aload_n 0 dX5_begin_123 rfl ?_
  refine x_ldcS (n := 42) 42 srX5_149 dX5_begin_124 ?_
  refine x_aload_n 0 dX5_begin_126 rfl ?_
  refine x_get (v := rv (fR h71 x0 1282)) fdX5_20 dX5_begin_127 t75 rfl ?_
  refine x_ldc (v := 2147483647) q735 dX5_begin_130 ?_
  obtain ⟨g77, g78, hq⟩ := hq
  refine x_callV (Yc := YX5_valueItem) (as := [rv (tx G 42), rv (fR h71 x0 1282), .int 2147483647]) (st := [rv (fR h71 (fR h71 x0 1293) 1792)]) q1099 mvX5_valueItem t75 rfl dX5_begin_132 (xle (xal1 (rv_cat _) (xal1 (rv_cat _) (xal1 (rv_cat _) (xal1 rfl xal0)))) (by decide)) (xfr g77) (xlo (xsw1 (rv_cat _) xsw0) (by decide) g78) (xKr hq (fun x80 h79 hq e81 => ?_) (fun _ _ q _ => q))
  replace hq := hq e81
  obtain ⟨g82, hq⟩ := hq
  obtain ⟨g83, g84, hq⟩ := hq
  refine x_callV (Yc := YJ2_add) (as := [rv x80]) (st := []) q1009 mvJ2_add g82 rfl dX5_begin_135 (xle (xal1 (rv_cat _) (xal1 (rv_cat _) xal0)) (by decide)) (xfr g83) (xlo xsw0 (by decide) g84) (xKi hq (fun x86 h85 hq e87 => ?_) (fun _ _ q _ => q))
  replace hq := hq e87
  refine x_pop dX5_begin_138 rfl ?_
  refine x_aload_n 0 dX5_begin_139 rfl ?_
  refine x_ldcS (n := 43) 43 srX5_151 dX5_begin_140 ?_
  refine x_iconst (v := 4) dX5_begin_142 (by decide) ?_
  refine x_null dX5_begin_143 ?_
  refine x_iconst (v := 0) dX5_begin_144 (by decide) ?_
  have t88 : tg h79 x0 = 6 := e81.tg t75 (by decide)
  have t89 : tg h85 x0 = 6 := e87.tg t88 (by decide)
  obtain ⟨g90, g91, hq⟩ := hq
  refine x_callV (Yc := YX5_there) (as := [rv (tx G 43), .int 4, rv 0, .int 0]) (st := []) q774 mvX5_there t89 rfl dX5_begin_145 (xle (xal1 (rv_cat _) (xal1 (rv_cat _) (xal1 rfl (xal1 (rv_cat _) (xal1 rfl xal0))))) (by decide)) (xfr g90) (xlo xsw0 (by decide) g91) (xKv hq (fun h92 hq e94 => ?_) (fun _ _ q _ => q))
  replace hq := hq e94
  refine x_aload_n 0 dX5_begin_148 rfl ?_
  refine x_ldcS (n := 44) 44 srX5_153 dX5_begin_149 ?_
  refine x_iconst (v := 4) dX5_begin_151 (by decide) ?_
  refine x_null dX5_begin_152 ?_
  refine x_bipush (v := 10) dX5_begin_153 (by decide) ?_
  have t95 : tg h92 x0 = 6 := e94.tg t89 (by decide)
  obtain ⟨g96, g97, hq⟩ := hq
  refine x_callV (Yc := YX5_there) (as := [rv (tx G 44), .int 4, rv 0, .int 10]) (st := []) q774 mvX5_there t95 rfl dX5_begin_155 (xle (xal1 (rv_cat _) (xal1 (rv_cat _) (xal1 rfl (xal1 (rv_cat _) (xal1 rfl xal0))))) (by decide)) (xfr g96) (xlo xsw0 (by decide) g97) (xKv hq (fun h98 hq e100 => ?_) (fun _ _ q _ => q))
  replace hq := hq e100
  exact x_vret rfl dX5_begin_158 hq
theorem rX5_begin {G : xG} {fr lo : Nat} {x0 : Nat} {h : xH} {Q : Outcome → xH → Prop} (hq : bX5_begin G fr lo x0 h Q) : xR G YX5_begin fr lo [rv x0] h Q := by
  show xP _ _ _ _ _ (lv_args 0 _) _ _ _
  rw [show lv_args 0 [rv x0] = [(0, rv x0)] from (xla1 (rv_cat _) xla0)]
  exact uX5_begin hq
set_option maxRecDepth 100000 in
theorem dX5_there_0 : decode cX5_there 0 = .ok (.new 86, 3) := by decide +kernel
set_option maxRecDepth 100000 in
theorem dX5_there_3 : decode cX5_there 3 = .ok (.dup, 1) := by decide +kernel
set_option maxRecDepth 100000 in
theorem dX5_there_4 : decode cX5_there 4 = .ok (.bipush 8, 2) := by decide +kernel
set_option maxRecDepth 100000 in
theorem dX5_there_6 : decode cX5_there 6 = .ok (.invokespecial 88, 3) := by decide +kernel
set_option maxRecDepth 100000 in
theorem dX5_there_9 : decode cX5_there 9 = .ok (.astore 5, 2) := by decide +kernel
set_option maxRecDepth 100000 in
theorem dX5_there_11 : decode cX5_there 11 = .ok (.iload 4, 2) := by decide +kernel
set_option maxRecDepth 100000 in
theorem dX5_there_13 : decode cX5_there 13 = .ok (.istore 6, 2) := by decide +kernel
set_option maxRecDepth 100000 in
theorem dX5_there_15 : decode cX5_there 15 = .ok (.iconst 0, 1) := by decide +kernel
set_option maxRecDepth 100000 in
theorem dX5_there_16 : decode cX5_there 16 = .ok (.istore 7, 2) := by decide +kernel
set_option maxRecDepth 100000 in
theorem dX5_there_18 : decode cX5_there 18 = .ok (.iload 7, 2) := by decide +kernel
set_option maxRecDepth 100000 in
theorem dX5_there_20 : decode cX5_there 20 = .ok (.aload_n 1, 1) := by decide +kernel
set_option maxRecDepth 100000 in
theorem dX5_there_21 : decode cX5_there 21 = .ok (.invokevirtual 89, 3) := by decide +kernel
set_option maxRecDepth 100000 in
theorem dX5_there_24 : decode cX5_there 24 = .ok (.if_icmp .gt 89, 3) := by decide +kernel
set_option maxRecDepth 100000 in
theorem dX5_there_27 : decode cX5_there 27 = .ok (.iload 7, 2) := by decide +kernel
set_option maxRecDepth 100000 in
theorem dX5_there_29 : decode cX5_there 29 = .ok (.aload_n 1, 1) := by decide +kernel
set_option maxRecDepth 100000 in
theorem dX5_there_30 : decode cX5_there 30 = .ok (.invokevirtual 89, 3) := by decide +kernel
set_option maxRecDepth 100000 in
theorem dX5_there_33 : decode cX5_there 33 = .ok (.if_icmp .ge 29, 3) := by decide +kernel
set_option maxRecDepth 100000 in
theorem dX5_there_36 : decode cX5_there 36 = .ok (.aload_n 1, 1) := by decide +kernel
set_option maxRecDepth 100000 in
theorem dX5_there_37 : decode cX5_there 37 = .ok (.iload 7, 2) := by decide +kernel
set_option maxRecDepth 100000 in
theorem dX5_there_39 : decode cX5_there 39 = .ok (.invokevirtual 95, 3) := by decide +kernel
set_option maxRecDepth 100000 in
theorem dX5_there_42 : decode cX5_there 42 = .ok (.bipush 32, 2) := by decide +kernel
set_option maxRecDepth 100000 in
theorem dX5_there_44 : decode cX5_there 44 = .ok (.if_icmp .eq 18, 3) := by decide +kernel
set_option maxRecDepth 100000 in
theorem dX5_there_47 : decode cX5_there 47 = .ok (.aload 5, 2) := by decide +kernel
set_option maxRecDepth 100000 in
theorem dX5_there_49 : decode cX5_there 49 = .ok (.aload_n 1, 1) := by decide +kernel
set_option maxRecDepth 100000 in
theorem dX5_there_50 : decode cX5_there 50 = .ok (.iload 7, 2) := by decide +kernel
set_option maxRecDepth 100000 in
theorem dX5_there_52 : decode cX5_there 52 = .ok (.invokevirtual 95, 3) := by decide +kernel
set_option maxRecDepth 100000 in
theorem dX5_there_55 : decode cX5_there 55 = .ok (.invokevirtual 99, 3) := by decide +kernel
set_option maxRecDepth 100000 in
theorem dX5_there_58 : decode cX5_there 58 = .ok (.pop, 1) := by decide +kernel
set_option maxRecDepth 100000 in
theorem dX5_there_59 : decode cX5_there 59 = .ok (.goto 48, 3) := by decide +kernel
set_option maxRecDepth 100000 in
theorem dX5_there_62 : decode cX5_there 62 = .ok (.new 103, 3) := by decide +kernel
set_option maxRecDepth 100000 in
theorem dX5_there_65 : decode cX5_there 65 = .ok (.dup, 1) := by decide +kernel
set_option maxRecDepth 100000 in
theorem dX5_there_66 : decode cX5_there 66 = .ok (.iload_n 2, 1) := by decide +kernel
set_option maxRecDepth 100000 in
theorem dX5_there_67 : decode cX5_there 67 = .ok (.aload 5, 2) := by decide +kernel
set_option maxRecDepth 100000 in
theorem dX5_there_69 : decode cX5_there 69 = .ok (.invokevirtual 105, 3) := by decide +kernel
set_option maxRecDepth 100000 in
theorem dX5_there_72 : decode cX5_there 72 = .ok (.aload_n 3, 1) := by decide +kernel
set_option maxRecDepth 100000 in
theorem dX5_there_73 : decode cX5_there 73 = .ok (.invokespecial 109, 3) := by decide +kernel
set_option maxRecDepth 100000 in
theorem dX5_there_76 : decode cX5_there 76 = .ok (.astore 8, 2) := by decide +kernel
set_option maxRecDepth 100000 in
theorem dX5_there_78 : decode cX5_there 78 = .ok (.aload 8, 2) := by decide +kernel
set_option maxRecDepth 100000 in
theorem dX5_there_80 : decode cX5_there 80 = .ok (.iload 6, 2) := by decide +kernel
set_option maxRecDepth 100000 in
theorem dX5_there_82 : decode cX5_there 82 = .ok (.putfield 112, 3) := by decide +kernel
set_option maxRecDepth 100000 in
theorem dX5_there_85 : decode cX5_there 85 = .ok (.aload_n 0, 1) := by decide +kernel
set_option maxRecDepth 100000 in
theorem dX5_there_86 : decode cX5_there 86 = .ok (.getfield 73, 3) := by decide +kernel
set_option maxRecDepth 100000 in
theorem dX5_there_89 : decode cX5_there 89 = .ok (.getfield 115, 3) := by decide +kernel
set_option maxRecDepth 100000 in
theorem dX5_there_92 : decode cX5_there 92 = .ok (.aload 8, 2) := by decide +kernel
set_option maxRecDepth 100000 in
theorem dX5_there_94 : decode cX5_there 94 = .ok (.invokevirtual 120, 3) := by decide +kernel
set_option maxRecDepth 100000 in
theorem dX5_there_97 : decode cX5_there 97 = .ok (.pop, 1) := by decide +kernel
set_option maxRecDepth 100000 in
theorem dX5_there_98 : decode cX5_there 98 = .ok (.aload 5, 2) := by decide +kernel
set_option maxRecDepth 100000 in
theorem dX5_there_100 : decode cX5_there 100 = .ok (.iconst 0, 1) := by decide +kernel
set_option maxRecDepth 100000 in
theorem dX5_there_101 : decode cX5_there 101 = .ok (.invokevirtual 124, 3) := by decide +kernel
set_option maxRecDepth 100000 in
theorem dX5_there_104 : decode cX5_there 104 = .ok (.iinc 6 1, 3) := by decide +kernel
set_option maxRecDepth 100000 in
theorem dX5_there_107 : decode cX5_there 107 = .ok (.iinc 7 1, 3) := by decide +kernel
set_option maxRecDepth 100000 in
theorem dX5_there_110 : decode cX5_there 110 = .ok (.goto (-92), 3) := by decide +kernel
set_option maxRecDepth 100000 in
theorem dX5_there_113 : decode cX5_there 113 = .ok (.return_, 1) := by decide +kernel
def lX5_there_18 (G : xG) (fr lo : Nat) (x0 : Nat) (x1 : Nat) (x2 : Int32) (x3 : Nat) (x5 : Nat) (x6 : Int32) (x7 : Int32) (h : xH) (Q : Outcome → xH → Prop) : Prop := xP G YX5_there fr lo 18 [(0, rv x0), (1, rv x1), (2, .int x2), (3, rv x3), (5, rv x5), (6, .int x6), (7, .int x7)] [] h Q
set_option maxRecDepth 100000 in
def bX5_there_107 (G : xG) (fr lo : Nat) (x0 : Nat) (x1 : Nat) (x2 : Int32) (x3 : Nat) (x5 : Nat) (x6 : Int32) (x7 : Int32) (h : xH) (Q : Outcome → xH → Prop) : Prop := lX5_there_18 G fr lo x0 x1 x2 x3 x5 x6 (x7 + 1) h Q
set_option maxRecDepth 100000 in
theorem uX5_there_107 {G : xG} {fr lo : Nat} {x0 : Nat} {x1 : Nat} {x2 : Int32} {x3 : Nat} {x5 : Nat} {x6 : Int32} {x7 : Int32} {h : xH} {Q : Outcome → xH → Prop} (hq : bX5_there_107 G fr lo x0 x1 x2 x3 x5 x6 x7 h Q) : xP G YX5_there fr lo 107 [(0, rv x0), (1, rv x1), (2, .int x2), (3, rv x3), (5, rv x5), (6, .int x6), (7, .int x7)] [] h Q := by
  unfold bX5_there_107 at hq
  refine x_iinc (lv' := [(7, .int (x7 + 1)), (0, rv x0), (1, rv x1), (2, .int x2), (3, rv x3), (5, rv x5), (6, .int x6)]) 6 dX5_there_107 rfl (by decide) rfl ?_
  refine x_goto (tgt := 18) dX5_there_110 (by decide) ?_
  refine xP.pick (lv' := [(0, rv x0), (1, rv x1), (2, .int x2), (3, rv x3), (5, rv x5), (6, .int x6), (7, .int (x7 + 1))]) [1, 2, 3, 4, 5, 6, 0] rfl ?_
  exact hq
set_option maxRecDepth 100000 in
def bX5_there_62 (G : xG) (fr lo : Nat) (x0 : Nat) (x1 : Nat) (x2 : Int32) (x3 : Nat) (x5 : Nat) (x6 : Int32) (x7 : Int32) (h : xH) (Q : Outcome → xH → Prop) : Prop := nx h + 1 ≤ xGN G ∧ us h + 12 ≤ xGU G ∧ (∀ (a3 : Nat) (h4 : xH), a3 = nx h + 1 → h4 = nO h 9 12 → xfresh h a3 → tg h4 x5 = 30 ∧ 1 ≤ fr ∧ 15 ≤ lo ∧ xRr G YJ4_toString (fr - 1) (lo - 15) [rv x5] h4 (fun x13 h12 => xext h4 h12 → 1 ≤ fr ∧ 16 ≤ lo ∧ xRv G YX8_init (fr - 1) (lo - 16) [rv a3, .int x2, rv x13, rv x3] h12 (fun h18 => xext h12 h18 → (∀ h22 : xH, h22 = sI h18 a3 2051 x6 → tg h22 x0 = 6 ∧ tg h22 (fR h22 x0 1293) = 8 ∧ tg h22 (fR h22 (fR h22 x0 1293) 1792) = 29 ∧ 1 ≤ fr ∧ 13 ≤ lo ∧ xRi G YJ2_add (fr - 1) (lo - 13) [rv (fR h22 (fR h22 x0 1293) 1792), rv a3] h22 (fun x30 h29 => xext h22 h29 → 1 ≤ fr ∧ 13 ≤ lo ∧ xRv G YJ4_setLength (fr - 1) (lo - 13) [rv x5, .int 0] h29 (fun h38 => xext h29 h38 → bX5_there_107 G fr lo x0 x1 x2 x3 x5 (x6 + 1) x7 h38 Q) (fun r h2 => Q (.threw r) h2)) (fun r h2 => Q (.threw r) h2))) (fun r h2 => Q (.threw r) h2)) (fun r h2 => Q (.threw r) h2))
set_option maxRecDepth 100000 in
theorem uX5_there_62 {G : xG} {fr lo : Nat} {x0 : Nat} {x1 : Nat} {x2 : Int32} {x3 : Nat} {x5 : Nat} {x6 : Int32} {x7 : Int32} {h : xH} {Q : Outcome → xH → Prop} (hq : bX5_there_62 G fr lo x0 x1 x2 x3 x5 x6 x7 h Q) : xP G YX5_there fr lo 62 [(0, rv x0), (1, rv x1), (2, .int x2), (3, rv x3), (5, rv x5), (6, .int x6), (7, .int x7)] [] h Q := by
  unfold bX5_there_62 at hq
  obtain ⟨g1, g2, hq⟩ := hq
  obtain ⟨a3, e5⟩ : ∃ y, y = nx h + 1 := ⟨_, rfl⟩
  obtain ⟨h4, e6⟩ : ∃ y, y = nO h 9 12 := ⟨_, rfl⟩
  refine x_new' cdX5_103 dX5_there_62 g1 g2 e5 e6 (fun f7 => ?_)
  replace hq := hq a3 h4 e5 e6 f7
  have t8 : tg h4 a3 = 9 := by rw [e6, e5]; exact tg_nO
  refine x_dup dX5_there_65 (rv_cat _) ?_
  refine x_iload_n 2 dX5_there_66 rfl ?_
  refine x_aload 4 dX5_there_67 rfl ?_
  obtain ⟨g9, hq⟩ := hq
  obtain ⟨g10, g11, hq⟩ := hq
  refine x_callV (Yc := YJ4_toString) (as := []) (st := [.int x2, rv a3, rv a3]) q904 mvJ4_toString g9 rfl dX5_there_69 (xle (xal1 (rv_cat _) xal0) (by decide)) (xfr g10) (xlo (xsw1 rfl (xsw1 (rv_cat _) (xsw1 (rv_cat _) xsw0))) (by decide) g11) (xKr hq (fun x13 h12 hq e14 => ?_) (fun _ _ q _ => q))
  replace hq := hq e14
  refine x_aload_n 3 dX5_there_72 rfl ?_
  have t15 : tg h12 a3 = 9 := e14.tg t8 (by decide)
  obtain ⟨g16, g17, hq⟩ := hq
  refine x_callI (Yc := YX8_init) (as := [.int x2, rv x13, rv x3]) (st := [rv a3]) q961 miX8_init (by rw [t15]; decide) rfl dX5_there_73 (xle (xal1 (rv_cat _) (xal1 rfl (xal1 (rv_cat _) (xal1 (rv_cat _) xal0)))) (by decide)) (xfr g16) (xlo (xsw1 (rv_cat _) xsw0) (by decide) g17) (xKv hq (fun h18 hq e20 => ?_) (fun _ _ q _ => q))
  replace hq := hq e20
  refine x_astore (lv' := [(8, rv a3), (0, rv x0), (1, rv x1), (2, .int x2), (3, rv x3), (5, rv x5), (6, .int x6), (7, .int x7)]) dX5_there_76 (by decide) rfl ?_
  refine x_aload 0 dX5_there_78 rfl ?_
  refine x_iload 6 dX5_there_80 rfl ?_
  have t21 : tg h18 a3 = 9 := e20.tg t15 (by decide)
  obtain ⟨h22, e23⟩ : ∃ y, y = sI h18 a3 2051 x6 := ⟨_, rfl⟩
  replace hq := hq h22 e23
  refine x_putNI gfX5_112 xty_I1 dX5_there_82 t21 (Or.inl (by rw [t21]; rfl)) xnI rfl e23 ?_
  refine x_aload_n 1 dX5_there_85 rfl ?_
  obtain ⟨g24, hq⟩ := hq
  refine x_get (v := rv (fR h22 x0 1293)) fdX5_73 dX5_there_86 g24 rfl ?_
  obtain ⟨g25, hq⟩ := hq
  refine x_getN (v := rv (fR h22 (fR h22 x0 1293) 1792)) gfX5_115 dX5_there_89 g25 rfl ?_
  refine x_aload 0 dX5_there_92 rfl ?_
  obtain ⟨g26, hq⟩ := hq
  obtain ⟨g27, g28, hq⟩ := hq
  refine x_callV (Yc := YJ2_add) (as := [rv a3]) (st := []) q1009 mvJ2_add g26 rfl dX5_there_94 (xle (xal1 (rv_cat _) (xal1 (rv_cat _) xal0)) (by decide)) (xfr g27) (xlo xsw0 (by decide) g28) (xKi hq (fun x30 h29 hq e31 => ?_) (fun _ _ q _ => q))
  replace hq := hq e31
  refine x_pop dX5_there_97 rfl ?_
  refine x_aload 5 dX5_there_98 rfl ?_
  refine x_iconst (v := 0) dX5_there_100 (by decide) ?_
  have t32 : tg h12 x5 = 30 := e14.tg g9 (by decide)
  have t33 : tg h18 x5 = 30 := e20.tg t32 (by decide)
  have t34 : tg h22 x5 = 30 := by rw [e23]; exact t33
  have t35 : tg h29 x5 = 30 := e31.tg t34 (by decide)
  obtain ⟨g36, g37, hq⟩ := hq
  refine x_callV (Yc := YJ4_setLength) (as := [.int 0]) (st := []) q1074 mvJ4_setLength t35 rfl dX5_there_101 (xle (xal1 (rv_cat _) (xal1 rfl xal0)) (by decide)) (xfr g36) (xlo xsw0 (by decide) g37) (xKv hq (fun h38 hq e40 => ?_) (fun _ _ q _ => q))
  replace hq := hq e40
  refine x_iinc (lv' := [(6, .int (x6 + 1)), (8, rv a3), (0, rv x0), (1, rv x1), (2, .int x2), (3, rv x3), (5, rv x5), (7, .int x7)]) 6 dX5_there_104 rfl (by decide) (by first | rfl | (simp [rv_cat, Value.category]; done) | (simp [rv_cat, Value.category]; decide)) ?_
  refine xP.pick (lv' := [(0, rv x0), (1, rv x1), (2, .int x2), (3, rv x3), (5, rv x5), (6, .int (x6 + 1)), (7, .int x7)]) [2, 3, 4, 5, 6, 0, 7] rfl ?_
  exact uX5_there_107 hq
set_option maxRecDepth 100000 in
def bX5_there_18 (G : xG) (fr lo : Nat) (x0 : Nat) (x1 : Nat) (x2 : Int32) (x3 : Nat) (x5 : Nat) (x6 : Int32) (x7 : Int32) (h : xH) (Q : Outcome → xH → Prop) : Prop := tg h x1 = 31 ∧ 1 ≤ fr ∧ 13 ≤ lo ∧ xRi G YJ5_length (fr - 1) (lo - 13) [rv x1] h (fun x5 h4 => xext h h4 → ((x5 < x7 → Q (.returned none) h4) ∧ (¬ x5 < x7 → 1 ≤ fr ∧ 13 ≤ lo ∧ xRi G YJ5_length (fr - 1) (lo - 13) [rv x1] h4 (fun x12 h11 => xext h4 h11 → ((x12 ≤ x7 → bX5_there_62 G fr lo x0 x1 x2 x3 x5 x6 x7 h11 Q) ∧ (¬ x12 ≤ x7 → 1 ≤ fr ∧ 13 ≤ lo ∧ xRi G YJ5_charAt (fr - 1) (lo - 13) [rv x1, .int x7] h11 (fun x19 h18 => xext h11 h18 → ((x19 = 32 → bX5_there_62 G fr lo x0 x1 x2 x3 x5 x6 x7 h18 Q) ∧ (¬ x19 = 32 → 1 ≤ fr ∧ 14 ≤ lo ∧ xRi G YJ5_charAt (fr - 1) (lo - 14) [rv x1, .int x7] h18 (fun x26 h25 => xext h18 h25 → tg h25 x5 = 30 ∧ 1 ≤ fr ∧ 13 ≤ lo ∧ xRr G YJ4_append (fr - 1) (lo - 13) [rv x5, .int x26] h25 (fun x32 h31 => xext h25 h31 → bX5_there_107 G fr lo x0 x1 x2 x3 x5 x6 x7 h31 Q) (fun r h2 => Q (.threw r) h2)) (fun r h2 => Q (.threw r) h2)))) (fun r h2 => Q (.threw r) h2)))) (fun r h2 => Q (.threw r) h2)))) (fun r h2 => Q (.threw r) h2)
set_option maxRecDepth 100000 in
theorem uX5_there_18 {G : xG} {fr lo : Nat} {x0 : Nat} {x1 : Nat} {x2 : Int32} {x3 : Nat} {x5 : Nat} {x6 : Int32} {x7 : Int32} {h : xH} {Q : Outcome → xH → Prop} (hq : bX5_there_18 G fr lo x0 x1 x2 x3 x5 x6 x7 h Q) : xP G YX5_there fr lo 18 [(0, rv x0), (1, rv x1), (2, .int x2), (3, rv x3), (5, rv x5), (6, .int x6), (7, .int x7)] [] h Q := by
  unfold bX5_there_18 at hq
  refine x_iload 6 dX5_there_18 rfl ?_
  refine x_aload_n 1 dX5_there_20 rfl ?_
  obtain ⟨g1, hq⟩ := hq
  obtain ⟨g2, g3, hq⟩ := hq
  refine x_callV (Yc := YJ5_length) (as := []) (st := [.int x7]) q780 mvJ5_length g1 rfl dX5_there_21 (xle (xal1 (rv_cat _) xal0) (by decide)) (xfr g2) (xlo (xsw1 rfl xsw0) (by decide) g3) (xKi hq (fun x5 h4 hq e6 => ?_) (fun _ _ q _ => q))
  replace hq := hq e6
  refine x_icmp_gt (tgt := 113) dX5_there_24 (by decide) (fun c7 => ?_) (fun c7 => ?_)
  · replace hq := hq.1 c7
    exact x_vret rfl dX5_there_113 hq
  · replace hq := hq.2 c7
    refine x_iload 6 dX5_there_27 rfl ?_
    refine x_aload_n 1 dX5_there_29 rfl ?_
    have t8 : tg h4 x1 = 31 := e6.tg g1 (by decide)
    obtain ⟨g9, g10, hq⟩ := hq
    refine x_callV (Yc := YJ5_length) (as := []) (st := [.int x7]) q780 mvJ5_length t8 rfl dX5_there_30 (xle (xal1 (rv_cat _) xal0) (by decide)) (xfr g9) (xlo (xsw1 rfl xsw0) (by decide) g10) (xKi hq (fun x12 h11 hq e13 => ?_) (fun _ _ q _ => q))
    replace hq := hq e13
    refine x_icmp_ge (tgt := 62) dX5_there_33 (by decide) (fun c14 => ?_) (fun c14 => ?_)
    · replace hq := hq.1 c14
      exact uX5_there_62 hq
    · replace hq := hq.2 c14
      refine x_aload_n 1 dX5_there_36 rfl ?_
      refine x_iload 6 dX5_there_37 rfl ?_
      have t15 : tg h11 x1 = 31 := e13.tg t8 (by decide)
      obtain ⟨g16, g17, hq⟩ := hq
      refine x_callV (Yc := YJ5_charAt) (as := [.int x7]) (st := []) q789 mvJ5_charAt t15 rfl dX5_there_39 (xle (xal1 (rv_cat _) (xal1 rfl xal0)) (by decide)) (xfr g16) (xlo xsw0 (by decide) g17) (xKi hq (fun x19 h18 hq e20 => ?_) (fun _ _ q _ => q))
      replace hq := hq e20
      refine x_bipush (v := 32) dX5_there_42 (by decide) ?_
      refine x_icmp_eq (tgt := 62) dX5_there_44 (by decide) (fun c21 => ?_) (fun c21 => ?_)
      · replace hq := hq.1 c21
        exact uX5_there_62 hq
      · replace hq := hq.2 c21
        refine x_aload 4 dX5_there_47 rfl ?_
        refine x_aload_n 1 dX5_there_49 rfl ?_
        refine x_iload 6 dX5_there_50 rfl ?_
        have t22 : tg h18 x1 = 31 := e20.tg t15 (by decide)
        obtain ⟨g23, g24, hq⟩ := hq
        refine x_callV (Yc := YJ5_charAt) (as := [.int x7]) (st := [rv x5]) q789 mvJ5_charAt t22 rfl dX5_there_52 (xle (xal1 (rv_cat _) (xal1 rfl xal0)) (by decide)) (xfr g23) (xlo (xsw1 (rv_cat _) xsw0) (by decide) g24) (xKi hq (fun x26 h25 hq e27 => ?_) (fun _ _ q _ => q))
        replace hq := hq e27
        obtain ⟨g28, hq⟩ := hq
        obtain ⟨g29, g30, hq⟩ := hq
        refine x_callV (Yc := YJ4_append) (as := [.int x26]) (st := []) q827 mvJ4_append g28 rfl dX5_there_55 (xle (xal1 (rv_cat _) (xal1 rfl xal0)) (by decide)) (xfr g29) (xlo xsw0 (by decide) g30) (xKr hq (fun x32 h31 hq e33 => ?_) (fun _ _ q _ => q))
        replace hq := hq e33
        refine x_pop dX5_there_58 (rv_cat _) ?_
        refine x_goto (tgt := 107) dX5_there_59 (by decide) ?_
        exact uX5_there_107 hq
set_option maxRecDepth 100000 in
def bX5_there (G : xG) (fr lo : Nat) (x0 : Nat) (x1 : Nat) (x2 : Int32) (x3 : Nat) (x4 : Int32) (h : xH) (Q : Outcome → xH → Prop) : Prop := nx h + 1 ≤ xGN G ∧ us h + 4 ≤ xGU G ∧ (∀ (a3 : Nat) (h4 : xH), a3 = nx h + 1 → h4 = nO h 30 4 → xfresh h a3 → 1 ≤ fr ∧ 14 ≤ lo ∧ xRv G YJ4_init (fr - 1) (lo - 14) [rv a3, .int 8] h4 (fun h11 => xext h4 h11 → lX5_there_18 G fr lo x0 x1 x2 x3 a3 x4 0 h11 Q) (fun r h2 => Q (.threw r) h2))
set_option maxRecDepth 100000 in
theorem uX5_there {G : xG} {fr lo : Nat} {x0 : Nat} {x1 : Nat} {x2 : Int32} {x3 : Nat} {x4 : Int32} {h : xH} {Q : Outcome → xH → Prop} (hq : bX5_there G fr lo x0 x1 x2 x3 x4 h Q) : xP G YX5_there fr lo 0 [(0, rv x0), (1, rv x1), (2, .int x2), (3, rv x3), (4, .int x4)] [] h Q := by
  unfold bX5_there at hq
  obtain ⟨g1, g2, hq⟩ := hq
  obtain ⟨a3, e5⟩ : ∃ y, y = nx h + 1 := ⟨_, rfl⟩
  obtain ⟨h4, e6⟩ : ∃ y, y = nO h 30 4 := ⟨_, rfl⟩
  refine x_new' cdX5_86 dX5_there_0 g1 g2 e5 e6 (fun f7 => ?_)
  replace hq := hq a3 h4 e5 e6 f7
  have t8 : tg h4 a3 = 30 := by rw [e6, e5]; exact tg_nO
  refine x_dup dX5_there_3 (rv_cat _) ?_
  refine x_bipush (v := 8) dX5_there_4 (by decide) ?_
  obtain ⟨g9, g10, hq⟩ := hq
  refine x_callI (Yc := YJ4_init) (as := [.int 8]) (st := [rv a3]) q779 miJ4_init (by rw [t8]; decide) rfl dX5_there_6 (xle (xal1 (rv_cat _) (xal1 rfl xal0)) (by decide)) (xfr g9) (xlo (xsw1 (rv_cat _) xsw0) (by decide) g10) (xKv hq (fun h11 hq e13 => ?_) (fun _ _ q _ => q))
  replace hq := hq e13
  refine x_astore (lv' := [(5, rv a3), (0, rv x0), (1, rv x1), (2, .int x2), (3, rv x3), (4, .int x4)]) dX5_there_9 (by decide) rfl ?_
  refine x_iload 5 dX5_there_11 rfl ?_
  refine x_istore (lv' := [(6, .int x4), (5, rv a3), (0, rv x0), (1, rv x1), (2, .int x2), (3, rv x3), (4, .int x4)]) dX5_there_13 (by decide) (by first | rfl | (simp [rv_cat, Value.category]; done) | (simp [rv_cat, Value.category]; decide)) ?_
  refine x_iconst (v := 0) dX5_there_15 (by decide) ?_
  refine x_istore (lv' := [(7, .int 0), (6, .int x4), (5, rv a3), (0, rv x0), (1, rv x1), (2, .int x2), (3, rv x3), (4, .int x4)]) dX5_there_16 (by decide) rfl ?_
  refine xP.pick (lv' := [(0, rv x0), (1, rv x1), (2, .int x2), (3, rv x3), (5, rv a3), (6, .int x4), (7, .int 0)]) [3, 4, 5, 6, 2, 1, 0] rfl ?_
  exact hq
theorem rX5_there {G : xG} {fr lo : Nat} {x0 : Nat} {x1 : Nat} {x2 : Int32} {x3 : Nat} {x4 : Int32} {h : xH} {Q : Outcome → xH → Prop} (hq : bX5_there G fr lo x0 x1 x2 x3 x4 h Q) : xR G YX5_there fr lo [rv x0, rv x1, .int x2, rv x3, .int x4] h Q := by
  show xP _ _ _ _ _ (lv_args 0 _) _ _ _
  rw [show lv_args 0 [rv x0, rv x1, .int x2, rv x3, .int x4] = [(0, rv x0), (1, rv x1), (2, .int x2), (3, rv x3), (4, .int x4)] from (xla1 (rv_cat _) (xla1 (rv_cat _) (xla1 rfl (xla1 (rv_cat _) (xla1 rfl xla0)))))]
  exact uX5_there hq
set_option maxRecDepth 100000 in
theorem dX5_valueItem_0 : decode cX5_valueItem 0 = .ok (.new 103, 3) := by decide +kernel
set_option maxRecDepth 100000 in
theorem dX5_valueItem_3 : decode cX5_valueItem 3 = .ok (.dup, 1) := by decide +kernel
set_option maxRecDepth 100000 in
theorem dX5_valueItem_4 : decode cX5_valueItem 4 = .ok (.iconst 0, 1) := by decide +kernel
set_option maxRecDepth 100000 in
theorem dX5_valueItem_5 : decode cX5_valueItem 5 = .ok (.aload_n 1, 1) := by decide +kernel
set_option maxRecDepth 100000 in
theorem dX5_valueItem_6 : decode cX5_valueItem 6 = .ok (.aload_n 2, 1) := by decide +kernel
set_option maxRecDepth 100000 in
theorem dX5_valueItem_7 : decode cX5_valueItem 7 = .ok (.invokespecial 109, 3) := by decide +kernel
set_option maxRecDepth 100000 in
theorem dX5_valueItem_10 : decode cX5_valueItem 10 = .ok (.astore 4, 2) := by decide +kernel
set_option maxRecDepth 100000 in
theorem dX5_valueItem_12 : decode cX5_valueItem 12 = .ok (.aload 4, 2) := by decide +kernel
set_option maxRecDepth 100000 in
theorem dX5_valueItem_14 : decode cX5_valueItem 14 = .ok (.iload_n 3, 1) := by decide +kernel
set_option maxRecDepth 100000 in
theorem dX5_valueItem_15 : decode cX5_valueItem 15 = .ok (.putfield 112, 3) := by decide +kernel
set_option maxRecDepth 100000 in
theorem dX5_valueItem_18 : decode cX5_valueItem 18 = .ok (.aload 4, 2) := by decide +kernel
set_option maxRecDepth 100000 in
theorem dX5_valueItem_20 : decode cX5_valueItem 20 = .ok (.areturn, 1) := by decide +kernel
set_option maxRecDepth 100000 in
def bX5_valueItem (G : xG) (fr lo : Nat) (x0 : Nat) (x1 : Nat) (x2 : Nat) (x3 : Int32) (h : xH) (Q : Outcome → xH → Prop) : Prop := nx h + 1 ≤ xGN G ∧ us h + 12 ≤ xGU G ∧ (∀ (a3 : Nat) (h4 : xH), a3 = nx h + 1 → h4 = nO h 9 12 → xfresh h a3 → 1 ≤ fr ∧ 16 ≤ lo ∧ xRv G YX8_init (fr - 1) (lo - 16) [rv a3, .int 0, rv x1, rv x2] h4 (fun h11 => xext h4 h11 → (∀ h15 : xH, h15 = sI h11 a3 2051 x3 → Q (.returned (some (rv a3))) h15)) (fun r h2 => Q (.threw r) h2))
set_option maxRecDepth 100000 in
theorem uX5_valueItem {G : xG} {fr lo : Nat} {x0 : Nat} {x1 : Nat} {x2 : Nat} {x3 : Int32} {h : xH} {Q : Outcome → xH → Prop} (hq : bX5_valueItem G fr lo x0 x1 x2 x3 h Q) : xP G YX5_valueItem fr lo 0 [(0, rv x0), (1, rv x1), (2, rv x2), (3, .int x3)] [] h Q := by
  unfold bX5_valueItem at hq
  obtain ⟨g1, g2, hq⟩ := hq
  obtain ⟨a3, e5⟩ : ∃ y, y = nx h + 1 := ⟨_, rfl⟩
  obtain ⟨h4, e6⟩ : ∃ y, y = nO h 9 12 := ⟨_, rfl⟩
  refine x_new' cdX5_103 dX5_valueItem_0 g1 g2 e5 e6 (fun f7 => ?_)
  replace hq := hq a3 h4 e5 e6 f7
  have t8 : tg h4 a3 = 9 := by rw [e6, e5]; exact tg_nO
  refine x_dup dX5_valueItem_3 (rv_cat _) ?_
  refine x_iconst (v := 0) dX5_valueItem_4 (by decide) ?_
  refine x_aload_n 1 dX5_valueItem_5 rfl ?_
  refine x_aload_n 2 dX5_valueItem_6 rfl ?_
  obtain ⟨g9, g10, hq⟩ := hq
  refine x_callI (Yc := YX8_init) (as := [.int 0, rv x1, rv x2]) (st := [rv a3]) q961 miX8_init (by rw [t8]; decide) rfl dX5_valueItem_7 (xle (xal1 (rv_cat _) (xal1 rfl (xal1 (rv_cat _) (xal1 (rv_cat _) xal0)))) (by decide)) (xfr g9) (xlo (xsw1 (rv_cat _) xsw0) (by decide) g10) (xKv hq (fun h11 hq e13 => ?_) (fun _ _ q _ => q))
  replace hq := hq e13
  refine x_astore (lv' := [(4, rv a3), (0, rv x0), (1, rv x1), (2, rv x2), (3, .int x3)]) dX5_valueItem_10 (by decide) rfl ?_
  refine x_aload 0 dX5_valueItem_12 rfl ?_
  refine x_iload_n 4 dX5_valueItem_14 rfl ?_
  have t14 : tg h11 a3 = 9 := e13.tg t8 (by decide)
  obtain ⟨h15, e16⟩ : ∃ y, y = sI h11 a3 2051 x3 := ⟨_, rfl⟩
  replace hq := hq h15 e16
  refine x_putNI gfX5_112 xty_I1 dX5_valueItem_15 t14 (Or.inl (by rw [t14]; rfl)) xnI rfl e16 ?_
  refine x_aload 0 dX5_valueItem_18 rfl ?_
  exact x_aret rfl xty_O dX5_valueItem_20 hq
theorem rX5_valueItem {G : xG} {fr lo : Nat} {x0 : Nat} {x1 : Nat} {x2 : Nat} {x3 : Int32} {h : xH} {Q : Outcome → xH → Prop} (hq : bX5_valueItem G fr lo x0 x1 x2 x3 h Q) : xR G YX5_valueItem fr lo [rv x0, rv x1, rv x2, .int x3] h Q := by
  show xP _ _ _ _ _ (lv_args 0 _) _ _ _
  rw [show lv_args 0 [rv x0, rv x1, rv x2, .int x3] = [(0, rv x0), (1, rv x1), (2, rv x2), (3, .int x3)] from (xla1 (rv_cat _) (xla1 (rv_cat _) (xla1 (rv_cat _) (xla1 rfl xla0))))]
  exact uX5_valueItem hq
set_option maxRecDepth 100000 in
theorem dX5_program_0 : decode cX5_program 0 = .ok (.aload_n 0, 1) := by decide +kernel
set_option maxRecDepth 100000 in
theorem dX5_program_1 : decode cX5_program 1 = .ok (.new 406, 3) := by decide +kernel
set_option maxRecDepth 100000 in
theorem dX5_program_4 : decode cX5_program 4 = .ok (.dup, 1) := by decide +kernel
set_option maxRecDepth 100000 in
theorem dX5_program_5 : decode cX5_program 5 = .ok (.aload_n 1, 1) := by decide +kernel
set_option maxRecDepth 100000 in
theorem dX5_program_6 : decode cX5_program 6 = .ok (.invokevirtual 173, 3) := by decide +kernel
set_option maxRecDepth 100000 in
theorem dX5_program_9 : decode cX5_program 9 = .ok (.iconst 0, 1) := by decide +kernel
set_option maxRecDepth 100000 in
theorem dX5_program_10 : decode cX5_program 10 = .ok (.aload_n 1, 1) := by decide +kernel
set_option maxRecDepth 100000 in
theorem dX5_program_11 : decode cX5_program 11 = .ok (.invokevirtual 192, 3) := by decide +kernel
set_option maxRecDepth 100000 in
theorem dX5_program_14 : decode cX5_program 14 = .ok (.invokespecial 408, 3) := by decide +kernel
set_option maxRecDepth 100000 in
theorem dX5_program_17 : decode cX5_program 17 = .ok (.putfield 411, 3) := by decide +kernel
set_option maxRecDepth 100000 in
theorem dX5_program_20 : decode cX5_program 20 = .ok (.aload_n 0, 1) := by decide +kernel
set_option maxRecDepth 100000 in
theorem dX5_program_21 : decode cX5_program 21 = .ok (.getfield 411, 3) := by decide +kernel
set_option maxRecDepth 100000 in
theorem dX5_program_24 : decode cX5_program 24 = .ok (.new 116, 3) := by decide +kernel
set_option maxRecDepth 100000 in
theorem dX5_program_27 : decode cX5_program 27 = .ok (.dup, 1) := by decide +kernel
set_option maxRecDepth 100000 in
theorem dX5_program_28 : decode cX5_program 28 = .ok (.aload_n 0, 1) := by decide +kernel
set_option maxRecDepth 100000 in
theorem dX5_program_29 : decode cX5_program 29 = .ok (.getfield 77, 3) := by decide +kernel
set_option maxRecDepth 100000 in
theorem dX5_program_32 : decode cX5_program 32 = .ok (.invokespecial 127, 3) := by decide +kernel
set_option maxRecDepth 100000 in
theorem dX5_program_35 : decode cX5_program 35 = .ok (.putfield 415, 3) := by decide +kernel
set_option maxRecDepth 100000 in
theorem dX5_program_38 : decode cX5_program 38 = .ok (.aload_n 0, 1) := by decide +kernel
set_option maxRecDepth 100000 in
theorem dX5_program_39 : decode cX5_program 39 = .ok (.aload_n 0, 1) := by decide +kernel
set_option maxRecDepth 100000 in
theorem dX5_program_40 : decode cX5_program 40 = .ok (.getfield 411, 3) := by decide +kernel
set_option maxRecDepth 100000 in
theorem dX5_program_43 : decode cX5_program 43 = .ok (.putfield 416, 3) := by decide +kernel
set_option maxRecDepth 100000 in
theorem dX5_program_46 : decode cX5_program 46 = .ok (.aload_n 0, 1) := by decide +kernel
set_option maxRecDepth 100000 in
theorem dX5_program_47 : decode cX5_program 47 = .ok (.aconst_null, 1) := by decide +kernel
set_option maxRecDepth 100000 in
theorem dX5_program_48 : decode cX5_program 48 = .ok (.putfield 296, 3) := by decide +kernel
set_option maxRecDepth 100000 in
theorem dX5_program_51 : decode cX5_program 51 = .ok (.aload_n 0, 1) := by decide +kernel
set_option maxRecDepth 100000 in
theorem dX5_program_52 : decode cX5_program 52 = .ok (.aconst_null, 1) := by decide +kernel
set_option maxRecDepth 100000 in
theorem dX5_program_53 : decode cX5_program 53 = .ok (.putfield 419, 3) := by decide +kernel
set_option maxRecDepth 100000 in
theorem dX5_program_56 : decode cX5_program 56 = .ok (.aload_n 0, 1) := by decide +kernel
set_option maxRecDepth 100000 in
theorem dX5_program_57 : decode cX5_program 57 = .ok (.aconst_null, 1) := by decide +kernel
set_option maxRecDepth 100000 in
theorem dX5_program_58 : decode cX5_program 58 = .ok (.putfield 423, 3) := by decide +kernel
set_option maxRecDepth 100000 in
theorem dX5_program_61 : decode cX5_program 61 = .ok (.aload_n 0, 1) := by decide +kernel
set_option maxRecDepth 100000 in
theorem dX5_program_62 : decode cX5_program 62 = .ok (.iconst 0, 1) := by decide +kernel
set_option maxRecDepth 100000 in
theorem dX5_program_63 : decode cX5_program 63 = .ok (.putfield 346, 3) := by decide +kernel
set_option maxRecDepth 100000 in
theorem dX5_program_66 : decode cX5_program 66 = .ok (.aload_n 0, 1) := by decide +kernel
set_option maxRecDepth 100000 in
theorem dX5_program_67 : decode cX5_program 67 = .ok (.getfield 51, 3) := by decide +kernel
set_option maxRecDepth 100000 in
theorem dX5_program_70 : decode cX5_program 70 = .ok (.invokevirtual 426, 3) := by decide +kernel
set_option maxRecDepth 100000 in
theorem dX5_program_73 : decode cX5_program 73 = .ok (.aload_n 0, 1) := by decide +kernel
set_option maxRecDepth 100000 in
theorem dX5_program_74 : decode cX5_program 74 = .ok (.getfield 55, 3) := by decide +kernel
set_option maxRecDepth 100000 in
theorem dX5_program_77 : decode cX5_program 77 = .ok (.invokevirtual 426, 3) := by decide +kernel
set_option maxRecDepth 100000 in
theorem dX5_program_80 : decode cX5_program 80 = .ok (.aload_n 0, 1) := by decide +kernel
set_option maxRecDepth 100000 in
theorem dX5_program_81 : decode cX5_program 81 = .ok (.iconst 0, 1) := by decide +kernel
set_option maxRecDepth 100000 in
theorem dX5_program_82 : decode cX5_program 82 = .ok (.putfield 429, 3) := by decide +kernel
set_option maxRecDepth 100000 in
theorem dX5_program_85 : decode cX5_program 85 = .ok (.aload_n 0, 1) := by decide +kernel
set_option maxRecDepth 100000 in
theorem dX5_program_86 : decode cX5_program 86 = .ok (.iconst 0, 1) := by decide +kernel
set_option maxRecDepth 100000 in
theorem dX5_program_87 : decode cX5_program 87 = .ok (.putfield 432, 3) := by decide +kernel
set_option maxRecDepth 100000 in
theorem dX5_program_90 : decode cX5_program 90 = .ok (.aload_n 1, 1) := by decide +kernel
set_option maxRecDepth 100000 in
theorem dX5_program_91 : decode cX5_program 91 = .ok (.getfield 251, 3) := by decide +kernel
set_option maxRecDepth 100000 in
theorem dX5_program_94 : decode cX5_program 94 = .ok (.getfield 251, 3) := by decide +kernel
set_option maxRecDepth 100000 in
theorem dX5_program_97 : decode cX5_program 97 = .ok (.astore_n 2, 1) := by decide +kernel
set_option maxRecDepth 100000 in
theorem dX5_program_98 : decode cX5_program 98 = .ok (.aload_n 2, 1) := by decide +kernel
set_option maxRecDepth 100000 in
theorem dX5_program_99 : decode cX5_program 99 = .ok (.ifnull 65, 3) := by decide +kernel
set_option maxRecDepth 100000 in
theorem dX5_program_102 : decode cX5_program 102 = .ok (.aload_n 1, 1) := by decide +kernel
set_option maxRecDepth 100000 in
theorem dX5_program_103 : decode cX5_program 103 = .ok (.getfield 251, 3) := by decide +kernel
set_option maxRecDepth 100000 in
theorem dX5_program_106 : decode cX5_program 106 = .ok (.getfield 251, 3) := by decide +kernel
set_option maxRecDepth 100000 in
theorem dX5_program_109 : decode cX5_program 109 = .ok (.astore_n 3, 1) := by decide +kernel
set_option maxRecDepth 100000 in
theorem dX5_program_110 : decode cX5_program 110 = .ok (.aload_n 3, 1) := by decide +kernel
set_option maxRecDepth 100000 in
theorem dX5_program_111 : decode cX5_program 111 = .ok (.aload_n 2, 1) := by decide +kernel
set_option maxRecDepth 100000 in
theorem dX5_program_112 : decode cX5_program 112 = .ok (.if_acmp .eq 35, 3) := by decide +kernel
set_option maxRecDepth 100000 in
theorem dX5_program_115 : decode cX5_program 115 = .ok (.aload_n 3, 1) := by decide +kernel
set_option maxRecDepth 100000 in
theorem dX5_program_116 : decode cX5_program 116 = .ok (.invokevirtual 173, 3) := by decide +kernel
set_option maxRecDepth 100000 in
theorem dX5_program_119 : decode cX5_program 119 = .ok (.aload_n 2, 1) := by decide +kernel
set_option maxRecDepth 100000 in
theorem dX5_program_120 : decode cX5_program 120 = .ok (.invokevirtual 173, 3) := by decide +kernel
set_option maxRecDepth 100000 in
theorem dX5_program_123 : decode cX5_program 123 = .ok (.invokevirtual 261, 3) := by decide +kernel
set_option maxRecDepth 100000 in
theorem dX5_program_126 : decode cX5_program 126 = .ok (.ifCond .eq 13, 3) := by decide +kernel
set_option maxRecDepth 100000 in
theorem dX5_program_129 : decode cX5_program 129 = .ok (.aload_n 0, 1) := by decide +kernel
set_option maxRecDepth 100000 in
theorem dX5_program_130 : decode cX5_program 130 = .ok (.iconst 5, 1) := by decide +kernel
set_option maxRecDepth 100000 in
theorem dX5_program_131 : decode cX5_program 131 = .ok (.aload_n 2, 1) := by decide +kernel
set_option maxRecDepth 100000 in
theorem dX5_program_132 : decode cX5_program 132 = .ok (.invokevirtual 192, 3) := by decide +kernel
set_option maxRecDepth 100000 in
theorem dX5_program_135 : decode cX5_program 135 = .ok (.invokevirtual 163, 3) := by decide +kernel
set_option maxRecDepth 100000 in
theorem dX5_program_138 : decode cX5_program 138 = .ok (.athrow, 1) := by decide +kernel
set_option maxRecDepth 100000 in
theorem dX5_program_139 : decode cX5_program 139 = .ok (.aload_n 3, 1) := by decide +kernel
set_option maxRecDepth 100000 in
theorem dX5_program_140 : decode cX5_program 140 = .ok (.getfield 307, 3) := by decide +kernel
set_option maxRecDepth 100000 in
theorem dX5_program_143 : decode cX5_program 143 = .ok (.astore_n 3, 1) := by decide +kernel
set_option maxRecDepth 100000 in
theorem dX5_program_144 : decode cX5_program 144 = .ok (.goto (-34), 3) := by decide +kernel
set_option maxRecDepth 100000 in
theorem dX5_program_147 : decode cX5_program 147 = .ok (.aload_n 0, 1) := by decide +kernel
set_option maxRecDepth 100000 in
theorem dX5_program_148 : decode cX5_program 148 = .ok (.aload_n 1, 1) := by decide +kernel
set_option maxRecDepth 100000 in
theorem dX5_program_149 : decode cX5_program 149 = .ok (.getfield 251, 3) := by decide +kernel
set_option maxRecDepth 100000 in
theorem dX5_program_152 : decode cX5_program 152 = .ok (.aload_n 2, 1) := by decide +kernel
set_option maxRecDepth 100000 in
theorem dX5_program_153 : decode cX5_program 153 = .ok (.invokevirtual 435, 3) := by decide +kernel
set_option maxRecDepth 100000 in
theorem dX5_program_156 : decode cX5_program 156 = .ok (.aload_n 2, 1) := by decide +kernel
set_option maxRecDepth 100000 in
theorem dX5_program_157 : decode cX5_program 157 = .ok (.getfield 307, 3) := by decide +kernel
set_option maxRecDepth 100000 in
theorem dX5_program_160 : decode cX5_program 160 = .ok (.astore_n 2, 1) := by decide +kernel
set_option maxRecDepth 100000 in
theorem dX5_program_161 : decode cX5_program 161 = .ok (.goto (-63), 3) := by decide +kernel
set_option maxRecDepth 100000 in
theorem dX5_program_164 : decode cX5_program 164 = .ok (.aload_n 0, 1) := by decide +kernel
set_option maxRecDepth 100000 in
theorem dX5_program_165 : decode cX5_program 165 = .ok (.aload_n 0, 1) := by decide +kernel
set_option maxRecDepth 100000 in
theorem dX5_program_166 : decode cX5_program 166 = .ok (.getfield 411, 3) := by decide +kernel
set_option maxRecDepth 100000 in
theorem dX5_program_169 : decode cX5_program 169 = .ok (.getfield 415, 3) := by decide +kernel
set_option maxRecDepth 100000 in
theorem dX5_program_172 : decode cX5_program 172 = .ok (.putfield 73, 3) := by decide +kernel
set_option maxRecDepth 100000 in
theorem dX5_program_175 : decode cX5_program 175 = .ok (.aload_n 0, 1) := by decide +kernel
set_option maxRecDepth 100000 in
theorem dX5_program_176 : decode cX5_program 176 = .ok (.aload_n 1, 1) := by decide +kernel
set_option maxRecDepth 100000 in
theorem dX5_program_177 : decode cX5_program 177 = .ok (.iconst 1, 1) := by decide +kernel
set_option maxRecDepth 100000 in
theorem dX5_program_178 : decode cX5_program 178 = .ok (.invokevirtual 310, 3) := by decide +kernel
set_option maxRecDepth 100000 in
theorem dX5_program_181 : decode cX5_program 181 = .ok (.aload_n 0, 1) := by decide +kernel
set_option maxRecDepth 100000 in
theorem dX5_program_182 : decode cX5_program 182 = .ok (.getfield 411, 3) := by decide +kernel
set_option maxRecDepth 100000 in
theorem dX5_program_185 : decode cX5_program 185 = .ok (.aload_n 1, 1) := by decide +kernel
set_option maxRecDepth 100000 in
theorem dX5_program_186 : decode cX5_program 186 = .ok (.getfield 251, 3) := by decide +kernel
set_option maxRecDepth 100000 in
theorem dX5_program_189 : decode cX5_program 189 = .ok (.invokevirtual 439, 3) := by decide +kernel
set_option maxRecDepth 100000 in
theorem dX5_program_192 : decode cX5_program 192 = .ok (.aload_n 0, 1) := by decide +kernel
set_option maxRecDepth 100000 in
theorem dX5_program_193 : decode cX5_program 193 = .ok (.getfield 411, 3) := by decide +kernel
set_option maxRecDepth 100000 in
theorem dX5_program_196 : decode cX5_program 196 = .ok (.areturn, 1) := by decide +kernel
def lX5_program_98 (G : xG) (fr lo : Nat) (x0 : Nat) (x1 : Nat) (x2 : Nat) (h : xH) (Q : Outcome → xH → Prop) : Prop := xP G YX5_program fr lo 98 [(0, rv x0), (1, rv x1), (2, rv x2)] [] h Q
def lX5_program_110 (G : xG) (fr lo : Nat) (x0 : Nat) (x1 : Nat) (x2 : Nat) (x3 : Nat) (h : xH) (Q : Outcome → xH → Prop) : Prop := xP G YX5_program fr lo 110 [(0, rv x0), (1, rv x1), (2, rv x2), (3, rv x3)] [] h Q
set_option maxRecDepth 100000 in
def bX5_program_110 (G : xG) (fr lo : Nat) (x0 : Nat) (x1 : Nat) (x2 : Nat) (x3 : Nat) (h : xH) (Q : Outcome → xH → Prop) : Prop := ((x3 = x2 → tg h x1 = 16 ∧ tg h x0 = 6 ∧ 1 ≤ fr ∧ 17 ≤ lo ∧ xRv G YX5_heading (fr - 1) (lo - 17) [rv x0, rv (fR h x1 3842), rv x2] h (fun h6 => xext h h6 → tg h6 x2 = 16 ∧ lX5_program_98 G fr lo x0 x1 (fR h6 x2 3844) h6 Q) (fun r h2 => Q (.threw r) h2)) ∧ (¬ x3 = x2 → tg h x3 = 16 ∧ 1 ≤ fr ∧ 12 ≤ lo ∧ xRr G YX15_text (fr - 1) (lo - 12) [rv x3] h (fun x14 h13 => xext h h13 → tg h13 x2 = 16 ∧ 1 ≤ fr ∧ 13 ≤ lo ∧ xRr G YX15_text (fr - 1) (lo - 13) [rv x2] h13 (fun x20 h19 => xext h13 h19 → tg h19 x14 = 31 ∧ 1 ≤ fr ∧ 14 ≤ lo ∧ xRi G YJ5_equals (fr - 1) (lo - 14) [rv x14, rv x20] h19 (fun x26 h25 => xext h19 h25 → ((x26 = 0 → lX5_program_110 G fr lo x0 x1 x2 (fR h25 x3 3844) h25 Q) ∧ (¬ x26 = 0 → 1 ≤ fr ∧ 14 ≤ lo ∧ xRi G YX15_place (fr - 1) (lo - 14) [rv x2] h25 (fun x37 h36 => xext h25 h36 → tg h36 x0 = 6 ∧ 1 ≤ fr ∧ 14 ≤ lo ∧ xRr G YX5_fault (fr - 1) (lo - 14) [rv x0, .int 5, .int x37] h36 (fun x43 h42 => xext h36 h42 → (∃ r45, x43 = r45 + 1 ∧ Q (.threw r45) h42)) (fun r h2 => Q (.threw r) h2)) (fun r h2 => Q (.threw r) h2)))) (fun r h2 => Q (.threw r) h2)) (fun r h2 => Q (.threw r) h2)) (fun r h2 => Q (.threw r) h2)))
set_option maxRecDepth 100000 in
theorem uX5_program_110 {G : xG} {fr lo : Nat} {x0 : Nat} {x1 : Nat} {x2 : Nat} {x3 : Nat} {h : xH} {Q : Outcome → xH → Prop} (hq : bX5_program_110 G fr lo x0 x1 x2 x3 h Q) : xP G YX5_program fr lo 110 [(0, rv x0), (1, rv x1), (2, rv x2), (3, rv x3)] [] h Q := by
  unfold bX5_program_110 at hq
  refine x_aload_n 3 dX5_program_110 rfl ?_
  refine x_aload_n 2 dX5_program_111 rfl ?_
  refine x_acmp_eq (tgt := 147) dX5_program_112 (by decide) (fun c1 => ?_) (fun c1 => ?_)
  · replace hq := hq.1 c1
    refine x_aload_n 0 dX5_program_147 rfl ?_
    refine x_aload_n 1 dX5_program_148 rfl ?_
    obtain ⟨g2, hq⟩ := hq
    refine x_getN (v := rv (fR h x1 3842)) gfX5_251 dX5_program_149 g2 rfl ?_
    refine x_aload_n 2 dX5_program_152 rfl ?_
    obtain ⟨g3, hq⟩ := hq
    obtain ⟨g4, g5, hq⟩ := hq
    refine x_callV (Yc := YX5_heading) (as := [rv (fR h x1 3842), rv x2]) (st := []) q2092 mvX5_heading g3 rfl dX5_program_153 (xle (xal1 (rv_cat _) (xal1 (rv_cat _) (xal1 (rv_cat _) xal0))) (by decide)) (xfr g4) (xlo xsw0 (by decide) g5) (xKv hq (fun h6 hq e8 => ?_) (fun _ _ q _ => q))
    replace hq := hq e8
    refine x_aload_n 2 dX5_program_156 rfl ?_
    obtain ⟨g9, hq⟩ := hq
    refine x_getN (v := rv (fR h6 x2 3844)) gfX5_307 dX5_program_157 g9 rfl ?_
    refine x_astore_n (lv' := [(2, rv (fR h6 x2 3844)), (0, rv x0), (1, rv x1), (3, rv x3)]) dX5_program_160 (by decide) (by first | rfl | (simp [rv_cat, Value.category]; done) | (simp [rv_cat, Value.category]; decide)) ?_
    refine x_goto (tgt := 98) dX5_program_161 (by decide) ?_
    refine xP.pick (lv' := [(0, rv x0), (1, rv x1), (2, rv (fR h6 x2 3844))]) [1, 2, 0] rfl ?_
    exact hq
  · replace hq := hq.2 c1
    refine x_aload_n 3 dX5_program_115 rfl ?_
    obtain ⟨g10, hq⟩ := hq
    obtain ⟨g11, g12, hq⟩ := hq
    refine x_callV (Yc := YX15_text) (as := []) (st := []) q2009 mvX15_text g10 rfl dX5_program_116 (xle (xal1 (rv_cat _) xal0) (by decide)) (xfr g11) (xlo xsw0 (by decide) g12) (xKr hq (fun x14 h13 hq e15 => ?_) (fun _ _ q _ => q))
    replace hq := hq e15
    refine x_aload_n 2 dX5_program_119 rfl ?_
    obtain ⟨g16, hq⟩ := hq
    obtain ⟨g17, g18, hq⟩ := hq
    refine x_callV (Yc := YX15_text) (as := []) (st := [rv x14]) q2009 mvX15_text g16 rfl dX5_program_120 (xle (xal1 (rv_cat _) xal0) (by decide)) (xfr g17) (xlo (xsw1 (rv_cat _) xsw0) (by decide) g18) (xKr hq (fun x20 h19 hq e21 => ?_) (fun _ _ q _ => q))
    replace hq := hq e21
    obtain ⟨g22, hq⟩ := hq
    obtain ⟨g23, g24, hq⟩ := hq
    refine x_callV (Yc := YJ5_equals) (as := [rv x20]) (st := []) q2086 mvJ5_equals g22 rfl dX5_program_123 (xle (xal1 (rv_cat _) (xal1 (rv_cat _) xal0)) (by decide)) (xfr g23) (xlo xsw0 (by decide) g24) (xKi hq (fun x26 h25 hq e27 => ?_) (fun _ _ q _ => q))
    replace hq := hq e27
    refine x_if_eq (tgt := 139) dX5_program_126 (by decide) (fun c28 => ?_) (fun c28 => ?_)
    · replace hq := hq.1 c28
      refine x_aload_n 3 dX5_program_139 rfl ?_
      have t29 : tg h13 x3 = 16 := e15.tg g10 (by decide)
      have t30 : tg h19 x3 = 16 := e21.tg t29 (by decide)
      have t31 : tg h25 x3 = 16 := e27.tg t30 (by decide)
      refine x_getN (v := rv (fR h25 x3 3844)) gfX5_307 dX5_program_140 t31 rfl ?_
      refine x_astore_n (lv' := [(3, rv (fR h25 x3 3844)), (0, rv x0), (1, rv x1), (2, rv x2)]) dX5_program_143 (by decide) (by first | rfl | (simp [rv_cat, Value.category]; done) | (simp [rv_cat, Value.category]; decide)) ?_
      refine x_goto (tgt := 110) dX5_program_144 (by decide) ?_
      refine xP.pick (lv' := [(0, rv x0), (1, rv x1), (2, rv x2), (3, rv (fR h25 x3 3844))]) [1, 2, 3, 0] rfl ?_
      exact hq
    · replace hq := hq.2 c28
      refine x_aload_n 0 dX5_program_129 rfl ?_
      refine x_iconst (v := 5) dX5_program_130 (by decide) ?_
      refine x_aload_n 2 dX5_program_131 rfl ?_
      have t32 : tg h19 x2 = 16 := e21.tg g16 (by decide)
      have t33 : tg h25 x2 = 16 := e27.tg t32 (by decide)
      obtain ⟨g34, g35, hq⟩ := hq
      refine x_callV (Yc := YX15_place) (as := []) (st := [.int 5, rv x0]) q2013 mvX15_place t33 rfl dX5_program_132 (xle (xal1 (rv_cat _) xal0) (by decide)) (xfr g34) (xlo (xsw1 rfl (xsw1 (rv_cat _) xsw0)) (by decide) g35) (xKi hq (fun x37 h36 hq e38 => ?_) (fun _ _ q _ => q))
      replace hq := hq e38
      obtain ⟨g39, hq⟩ := hq
      obtain ⟨g40, g41, hq⟩ := hq
      refine x_callV (Yc := YX5_fault) (as := [.int 5, .int x37]) (st := []) q2087 mvX5_fault g39 rfl dX5_program_135 (xle (xal1 (rv_cat _) (xal1 rfl (xal1 rfl xal0))) (by decide)) (xfr g40) (xlo xsw0 (by decide) g41) (xKr hq (fun x43 h42 hq e44 => ?_) (fun _ _ q _ => q))
      replace hq := hq e44
      obtain ⟨r45, g46, hq⟩ := hq
      rw [g46]
      exact x_athrow dX5_program_138 hq
set_option maxRecDepth 100000 in
def bX5_program_98 (G : xG) (fr lo : Nat) (x0 : Nat) (x1 : Nat) (x2 : Nat) (h : xH) (Q : Outcome → xH → Prop) : Prop := ((x2 = 0 → tg h x0 = 6 ∧ tg h (fR h x0 1304) = 17 ∧ (∀ h4 : xH, h4 = sR h x0 1293 (fR h (fR h x0 1304) 4101) → tg h4 x1 = 16 ∧ 1 ≤ fr ∧ 16 ≤ lo ∧ xRr G YX15_kid (fr - 1) (lo - 16) [rv x1, .int 1] h4 (fun x10 h9 => xext h4 h9 → 1 ≤ fr ∧ 18 ≤ lo ∧ xRv G YX5_block (fr - 1) (lo - 18) [rv x0, rv x10, rv (fR h9 x0 1304), rv (fR h9 x1 3842)] h9 (fun h17 => xext h9 h17 → Q (.returned (some (rv (fR h17 x0 1304)))) h17) (fun r h2 => Q (.threw r) h2)) (fun r h2 => Q (.threw r) h2))) ∧ (¬ x2 = 0 → tg h x1 = 16 ∧ tg h (fR h x1 3842) = 16 ∧ lX5_program_110 G fr lo x0 x1 x2 (fR h (fR h x1 3842) 3842) h Q))
set_option maxRecDepth 100000 in
theorem uX5_program_98 {G : xG} {fr lo : Nat} {x0 : Nat} {x1 : Nat} {x2 : Nat} {h : xH} {Q : Outcome → xH → Prop} (hq : bX5_program_98 G fr lo x0 x1 x2 h Q) : xP G YX5_program fr lo 98 [(0, rv x0), (1, rv x1), (2, rv x2)] [] h Q := by
  unfold bX5_program_98 at hq
  refine x_aload_n 2 dX5_program_98 rfl ?_
  refine x_ifnull (tgt := 164) dX5_program_99 (by decide) (fun c1 => ?_) (fun c1 => ?_)
  · replace hq := hq.1 c1
    refine x_aload_n 0 dX5_program_164 rfl ?_
    refine x_aload_n 0 dX5_program_165 rfl ?_
    obtain ⟨g2, hq⟩ := hq
    refine x_get (v := rv (fR h x0 1304)) fdX5_411 dX5_program_166 g2 rfl ?_
    obtain ⟨g3, hq⟩ := hq
    refine x_getN (v := rv (fR h (fR h x0 1304) 4101)) gfX5_415 dX5_program_169 g3 rfl ?_
    obtain ⟨h4, e5⟩ : ∃ y, y = sR h x0 1293 (fR h (fR h x0 1304) 4101) := ⟨_, rfl⟩
    replace hq := hq h4 e5
    refine x_putR fdX5_73 xty_O dX5_program_172 g2 (Or.inl (by rw [g2]; rfl)) rfl e5 ?_
    refine x_aload_n 0 dX5_program_175 rfl ?_
    refine x_aload_n 1 dX5_program_176 rfl ?_
    refine x_iconst (v := 1) dX5_program_177 (by decide) ?_
    obtain ⟨g6, hq⟩ := hq
    obtain ⟨g7, g8, hq⟩ := hq
    refine x_callV (Yc := YX15_kid) (as := [.int 1]) (st := [rv x0]) q2129 mvX15_kid g6 rfl dX5_program_178 (xle (xal1 (rv_cat _) (xal1 rfl xal0)) (by decide)) (xfr g7) (xlo (xsw1 (rv_cat _) xsw0) (by decide) g8) (xKr hq (fun x10 h9 hq e11 => ?_) (fun _ _ q _ => q))
    replace hq := hq e11
    refine x_aload_n 0 dX5_program_181 rfl ?_
    have t12 : tg h4 x0 = 6 := by rw [e5]; exact g2
    have t13 : tg h9 x0 = 6 := e11.tg t12 (by decide)
    refine x_get (v := rv (fR h9 x0 1304)) fdX5_411 dX5_program_182 t13 rfl ?_
    refine x_aload_n 1 dX5_program_185 rfl ?_
    have t14 : tg h9 x1 = 16 := e11.tg g6 (by decide)
    refine x_getN (v := rv (fR h9 x1 3842)) gfX5_251 dX5_program_186 t14 rfl ?_
    obtain ⟨g15, g16, hq⟩ := hq
    refine x_callV (Yc := YX5_block) (as := [rv x10, rv (fR h9 x0 1304), rv (fR h9 x1 3842)]) (st := []) q2133 mvX5_block t13 rfl dX5_program_189 (xle (xal1 (rv_cat _) (xal1 (rv_cat _) (xal1 (rv_cat _) (xal1 (rv_cat _) xal0)))) (by decide)) (xfr g15) (xlo xsw0 (by decide) g16) (xKv hq (fun h17 hq e19 => ?_) (fun _ _ q _ => q))
    replace hq := hq e19
    refine x_aload_n 0 dX5_program_192 rfl ?_
    have t20 : tg h17 x0 = 6 := e19.tg t13 (by decide)
    refine x_get (v := rv (fR h17 x0 1304)) fdX5_411 dX5_program_193 t20 rfl ?_
    exact x_aret rfl xty_O dX5_program_196 hq
  · replace hq := hq.2 c1
    refine x_aload_n 1 dX5_program_102 rfl ?_
    obtain ⟨g21, hq⟩ := hq
    refine x_getN (v := rv (fR h x1 3842)) gfX5_251 dX5_program_103 g21 rfl ?_
    obtain ⟨g22, hq⟩ := hq
    refine x_getN (v := rv (fR h (fR h x1 3842) 3842)) gfX5_251 dX5_program_106 g22 rfl ?_
    refine x_astore_n (lv' := [(3, rv (fR h (fR h x1 3842) 3842)), (0, rv x0), (1, rv x1), (2, rv x2)]) dX5_program_109 (by decide) (by first | rfl | (simp [rv_cat, Value.category]; done) | (simp [rv_cat, Value.category]; decide)) ?_
    refine xP.pick (lv' := [(0, rv x0), (1, rv x1), (2, rv x2), (3, rv (fR h (fR h x1 3842) 3842))]) [1, 2, 3, 0] rfl ?_
    exact hq
set_option maxRecDepth 100000 in
def bX5_program (G : xG) (fr lo : Nat) (x0 : Nat) (x1 : Nat) (h : xH) (Q : Outcome → xH → Prop) : Prop := nx h + 1 ≤ xGN G ∧ us h + 16 ≤ xGU G ∧ (∀ (a3 : Nat) (h4 : xH), a3 = nx h + 1 → h4 = nO h 17 16 → xfresh h a3 → tg h4 x1 = 16 ∧ 1 ≤ fr ∧ 15 ≤ lo ∧ xRr G YX15_text (fr - 1) (lo - 15) [rv x1] h4 (fun x13 h12 => xext h4 h12 → 1 ≤ fr ∧ 17 ≤ lo ∧ xRi G YX15_place (fr - 1) (lo - 17) [rv x1] h12 (fun x19 h18 => xext h12 h18 → 1 ≤ fr ∧ 17 ≤ lo ∧ xRv G YX16_init (fr - 1) (lo - 17) [rv a3, rv x13, .int 0, .int x19] h18 (fun h25 => xext h18 h25 → tg h25 x0 = 6 ∧ (∀ h29 : xH, h29 = sR h25 x0 1304 a3 → nx h29 + 1 ≤ xGN G ∧ us h29 + 4 ≤ xGU G ∧ (∀ (a34 : Nat) (h35 : xH), a34 = nx h29 + 1 → h35 = nO h29 8 4 → xfresh h29 a34 → 1 ≤ fr ∧ 15 ≤ lo ∧ xRv G YX7_init (fr - 1) (lo - 15) [rv a34, rv (fR h35 x0 1292)] h35 (fun h43 => xext h35 h43 → tg h43 (fR h29 x0 1304) = 17 ∧ (∀ h47 : xH, h47 = sR h43 (fR h29 x0 1304) 4101 a34 → (∀ h51 : xH, h51 = sR h47 x0 1295 (fR h47 x0 1304) → (∀ h54 : xH, h54 = sR h51 x0 1294 0 → (∀ h57 : xH, h57 = sR h54 x0 1305 0 → (∀ h60 : xH, h60 = sR h57 x0 1306 0 → (∀ h63 : xH, h63 = sI h60 x0 1291 0 → tg h63 (fR h63 x0 1289) = 29 ∧ 1 ≤ fr ∧ 15 ≤ lo ∧ xRv G YJ2_clear (fr - 1) (lo - 15) [rv (fR h63 x0 1289)] h63 (fun h69 => xext h63 h69 → tg h69 (fR h69 x0 1290) = 29 ∧ 1 ≤ fr ∧ 15 ≤ lo ∧ xRv G YJ2_clear (fr - 1) (lo - 15) [rv (fR h69 x0 1290)] h69 (fun h76 => xext h69 h76 → (∀ h80 : xH, h80 = sI h76 x0 1307 0 → (∀ h83 : xH, h83 = sI h80 x0 1308 0 → tg h83 (fR h83 x1 3842) = 16 ∧ lX5_program_98 G fr lo x0 x1 (fR h83 (fR h83 x1 3842) 3842) h83 Q))) (fun r h2 => Q (.threw r) h2)) (fun r h2 => Q (.threw r) h2)))))))) (fun r h2 => Q (.threw r) h2)))) (fun r h2 => Q (.threw r) h2)) (fun r h2 => Q (.threw r) h2)) (fun r h2 => Q (.threw r) h2))
set_option maxRecDepth 100000 in
theorem uX5_program {G : xG} {fr lo : Nat} {x0 : Nat} {x1 : Nat} {h : xH} {Q : Outcome → xH → Prop} (hq : bX5_program G fr lo x0 x1 h Q) : xP G YX5_program fr lo 0 [(0, rv x0), (1, rv x1)] [] h Q := by
  unfold bX5_program at hq
  refine x_aload_n 0 dX5_program_0 rfl ?_
  obtain ⟨g1, g2, hq⟩ := hq
  obtain ⟨a3, e5⟩ : ∃ y, y = nx h + 1 := ⟨_, rfl⟩
  obtain ⟨h4, e6⟩ : ∃ y, y = nO h 17 16 := ⟨_, rfl⟩
  refine x_new' cdX5_406 dX5_program_1 g1 g2 e5 e6 (fun f7 => ?_)
  replace hq := hq a3 h4 e5 e6 f7
  have t8 : tg h4 a3 = 17 := by rw [e6, e5]; exact tg_nO
  refine x_dup dX5_program_4 (rv_cat _) ?_
  refine x_aload_n 1 dX5_program_5 rfl ?_
  obtain ⟨g9, hq⟩ := hq
  obtain ⟨g10, g11, hq⟩ := hq
  refine x_callV (Yc := YX15_text) (as := []) (st := [rv a3, rv a3, rv x0]) q2009 mvX15_text g9 rfl dX5_program_6 (xle (xal1 (rv_cat _) xal0) (by decide)) (xfr g10) (xlo (xsw1 (rv_cat _) (xsw1 (rv_cat _) (xsw1 (rv_cat _) xsw0))) (by decide) g11) (xKr hq (fun x13 h12 hq e14 => ?_) (fun _ _ q _ => q))
  replace hq := hq e14
  refine x_iconst (v := 0) dX5_program_9 (by decide) ?_
  refine x_aload_n 1 dX5_program_10 rfl ?_
  have t15 : tg h12 x1 = 16 := e14.tg g9 (by decide)
  obtain ⟨g16, g17, hq⟩ := hq
  refine x_callV (Yc := YX15_place) (as := []) (st := [.int 0, rv x13, rv a3, rv a3, rv x0]) q2013 mvX15_place t15 rfl dX5_program_11 (xle (xal1 (rv_cat _) xal0) (by decide)) (xfr g16) (xlo (xsw1 rfl (xsw1 (rv_cat _) (xsw1 (rv_cat _) (xsw1 (rv_cat _) (xsw1 (rv_cat _) xsw0))))) (by decide) g17) (xKi hq (fun x19 h18 hq e20 => ?_) (fun _ _ q _ => q))
  replace hq := hq e20
  have t21 : tg h12 a3 = 17 := e14.tg t8 (by decide)
  have t22 : tg h18 a3 = 17 := e20.tg t21 (by decide)
  obtain ⟨g23, g24, hq⟩ := hq
  refine x_callI (Yc := YX16_init) (as := [rv x13, .int 0, .int x19]) (st := [rv a3, rv x0]) q2017 miX16_init (by rw [t22]; decide) rfl dX5_program_14 (xle (xal1 (rv_cat _) (xal1 (rv_cat _) (xal1 rfl (xal1 rfl xal0)))) (by decide)) (xfr g23) (xlo (xsw1 (rv_cat _) (xsw1 (rv_cat _) xsw0)) (by decide) g24) (xKv hq (fun h25 hq e27 => ?_) (fun _ _ q _ => q))
  replace hq := hq e27
  obtain ⟨g28, hq⟩ := hq
  obtain ⟨h29, e30⟩ : ∃ y, y = sR h25 x0 1304 a3 := ⟨_, rfl⟩
  replace hq := hq h29 e30
  refine x_putR fdX5_411 xty_O dX5_program_17 g28 (Or.inl (by rw [g28]; rfl)) rfl e30 ?_
  refine x_aload_n 0 dX5_program_20 rfl ?_
  have t31 : tg h29 x0 = 6 := by rw [e30]; exact g28
  refine x_get (v := rv (fR h29 x0 1304)) fdX5_411 dX5_program_21 t31 rfl ?_
  obtain ⟨g32, g33, hq⟩ := hq
  obtain ⟨a34, e36⟩ : ∃ y, y = nx h29 + 1 := ⟨_, rfl⟩
  obtain ⟨h35, e37⟩ : ∃ y, y = nO h29 8 4 := ⟨_, rfl⟩
  refine x_new' cdX5_116 dX5_program_24 g32 g33 e36 e37 (fun f38 => ?_)
  replace hq := hq a34 h35 e36 e37 f38
  have t39 : tg h35 a34 = 8 := by rw [e37, e36]; exact tg_nO
  refine x_dup dX5_program_27 (rv_cat _) ?_
  refine x_aload_n 0 dX5_program_28 rfl ?_
  have t40 : tg h35 x0 = 6 := by rw [e37]; exact tg_nO_ne e36 f38 t31 (by decide)
  refine x_get (v := rv (fR h35 x0 1292)) fdX5_77 dX5_program_29 t40 rfl ?_
  obtain ⟨g41, g42, hq⟩ := hq
  refine x_callI (Yc := YX7_init) (as := [rv (fR h35 x0 1292)]) (st := [rv a34, rv (fR h29 x0 1304)]) q752 miX7_init (by rw [t39]; decide) rfl dX5_program_32 (xle (xal1 (rv_cat _) (xal1 (rv_cat _) xal0)) (by decide)) (xfr g41) (xlo (xsw1 (rv_cat _) (xsw1 (rv_cat _) xsw0)) (by decide) g42) (xKv hq (fun h43 hq e45 => ?_) (fun _ _ q _ => q))
  replace hq := hq e45
  obtain ⟨g46, hq⟩ := hq
  obtain ⟨h47, e48⟩ : ∃ y, y = sR h43 (fR h29 x0 1304) 4101 a34 := ⟨_, rfl⟩
  replace hq := hq h47 e48
  refine x_putNR gfX5_415 xty_O dX5_program_35 g46 (Or.inl (by rw [g46]; rfl)) rfl e48 ?_
  refine x_aload_n 0 dX5_program_38 rfl ?_
  refine x_aload_n 0 dX5_program_39 rfl ?_
  have t49 : tg h43 x0 = 6 := e45.tg t40 (by decide)
  have t50 : tg h47 x0 = 6 := by rw [e48]; exact t49
  refine x_get (v := rv (fR h47 x0 1304)) fdX5_411 dX5_program_40 t50 rfl ?_
  obtain ⟨h51, e52⟩ : ∃ y, y = sR h47 x0 1295 (fR h47 x0 1304) := ⟨_, rfl⟩
  replace hq := hq h51 e52
  refine x_putR fdX5_416 xty_O dX5_program_43 t50 (Or.inl (by rw [t50]; rfl)) rfl e52 ?_
  refine x_aload_n 0 dX5_program_46 rfl ?_
  refine x_null dX5_program_47 ?_
  have t53 : tg h51 x0 = 6 := by rw [e52]; exact t50
  obtain ⟨h54, e55⟩ : ∃ y, y = sR h51 x0 1294 0 := ⟨_, rfl⟩
  replace hq := hq h54 e55
  refine x_putR fdX5_296 xty_O dX5_program_48 t53 (Or.inl (by rw [t53]; rfl)) rfl e55 ?_
  refine x_aload_n 0 dX5_program_51 rfl ?_
  refine x_null dX5_program_52 ?_
  have t56 : tg h54 x0 = 6 := by rw [e55]; exact t53
  obtain ⟨h57, e58⟩ : ∃ y, y = sR h54 x0 1305 0 := ⟨_, rfl⟩
  replace hq := hq h57 e58
  refine x_putR fdX5_419 xty_O dX5_program_53 t56 (Or.inl (by rw [t56]; rfl)) rfl e58 ?_
  refine x_aload_n 0 dX5_program_56 rfl ?_
  refine x_null dX5_program_57 ?_
  have t59 : tg h57 x0 = 6 := by rw [e58]; exact t56
  obtain ⟨h60, e61⟩ : ∃ y, y = sR h57 x0 1306 0 := ⟨_, rfl⟩
  replace hq := hq h60 e61
  refine x_putR fdX5_423 xty_O dX5_program_58 t59 (Or.inl (by rw [t59]; rfl)) rfl e61 ?_
  refine x_aload_n 0 dX5_program_61 rfl ?_
  refine x_iconst (v := 0) dX5_program_62 (by decide) ?_
  have t62 : tg h60 x0 = 6 := by rw [e61]; exact t59
  obtain ⟨h63, e64⟩ : ∃ y, y = sI h60 x0 1291 0 := ⟨_, rfl⟩
  replace hq := hq h63 e64
  refine x_putI fdX5_346 xty_Z1 dX5_program_63 t62 (Or.inl (by rw [t62]; rfl)) (xnB (Or.inl rfl)) rfl e64 ?_
  refine x_aload_n 0 dX5_program_66 rfl ?_
  have t65 : tg h63 x0 = 6 := by rw [e64]; exact t62
  refine x_get (v := rv (fR h63 x0 1289)) fdX5_51 dX5_program_67 t65 rfl ?_
  obtain ⟨g66, hq⟩ := hq
  obtain ⟨g67, g68, hq⟩ := hq
  refine x_callV (Yc := YJ2_clear) (as := []) (st := []) q2085 mvJ2_clear g66 rfl dX5_program_70 (xle (xal1 (rv_cat _) xal0) (by decide)) (xfr g67) (xlo xsw0 (by decide) g68) (xKv hq (fun h69 hq e71 => ?_) (fun _ _ q _ => q))
  replace hq := hq e71
  refine x_aload_n 0 dX5_program_73 rfl ?_
  have t72 : tg h69 x0 = 6 := e71.tg t65 (by decide)
  refine x_get (v := rv (fR h69 x0 1290)) fdX5_55 dX5_program_74 t72 rfl ?_
  obtain ⟨g73, hq⟩ := hq
  obtain ⟨g74, g75, hq⟩ := hq
  refine x_callV (Yc := YJ2_clear) (as := []) (st := []) q2085 mvJ2_clear g73 rfl dX5_program_77 (xle (xal1 (rv_cat _) xal0) (by decide)) (xfr g74) (xlo xsw0 (by decide) g75) (xKv hq (fun h76 hq e78 => ?_) (fun _ _ q _ => q))
  replace hq := hq e78
  refine x_aload_n 0 dX5_program_80 rfl ?_
  refine x_iconst (v := 0) dX5_program_81 (by decide) ?_
  have t79 : tg h76 x0 = 6 := e78.tg t72 (by decide)
  obtain ⟨h80, e81⟩ : ∃ y, y = sI h76 x0 1307 0 := ⟨_, rfl⟩
  replace hq := hq h80 e81
  refine x_putI fdX5_429 xty_I1 dX5_program_82 t79 (Or.inl (by rw [t79]; rfl)) xnI rfl e81 ?_
  refine x_aload_n 0 dX5_program_85 rfl ?_
  refine x_iconst (v := 0) dX5_program_86 (by decide) ?_
  have t82 : tg h80 x0 = 6 := by rw [e81]; exact t79
  obtain ⟨h83, e84⟩ : ∃ y, y = sI h80 x0 1308 0 := ⟨_, rfl⟩
  replace hq := hq h83 e84
  refine x_putI fdX5_432 xty_I1 dX5_program_87 t82 (Or.inl (by rw [t82]; rfl)) xnI rfl e84 ?_
  refine x_aload_n 1 dX5_program_90 rfl ?_
  have t85 : tg h18 x1 = 16 := e20.tg t15 (by decide)
  have t86 : tg h25 x1 = 16 := e27.tg t85 (by decide)
  have t87 : tg h29 x1 = 16 := by rw [e30]; exact t86
  have t88 : tg h35 x1 = 16 := by rw [e37]; exact tg_nO_ne e36 f38 t87 (by decide)
  have t89 : tg h43 x1 = 16 := e45.tg t88 (by decide)
  have t90 : tg h47 x1 = 16 := by rw [e48]; exact t89
  have t91 : tg h51 x1 = 16 := by rw [e52]; exact t90
  have t92 : tg h54 x1 = 16 := by rw [e55]; exact t91
  have t93 : tg h57 x1 = 16 := by rw [e58]; exact t92
  have t94 : tg h60 x1 = 16 := by rw [e61]; exact t93
  have t95 : tg h63 x1 = 16 := by rw [e64]; exact t94
  have t96 : tg h69 x1 = 16 := e71.tg t95 (by decide)
  have t97 : tg h76 x1 = 16 := e78.tg t96 (by decide)
  have t98 : tg h80 x1 = 16 := by rw [e81]; exact t97
  have t99 : tg h83 x1 = 16 := by rw [e84]; exact t98
  refine x_getN (v := rv (fR h83 x1 3842)) gfX5_251 dX5_program_91 t99 rfl ?_
  obtain ⟨g100, hq⟩ := hq
  refine x_getN (v := rv (fR h83 (fR h83 x1 3842) 3842)) gfX5_251 dX5_program_94 g100 rfl ?_
  refine x_astore_n (lv' := [(2, rv (fR h83 (fR h83 x1 3842) 3842)), (0, rv x0), (1, rv x1)]) dX5_program_97 (by decide) (by first | rfl | (simp [rv_cat, Value.category]; done) | (simp [rv_cat, Value.category]; decide)) ?_
  refine xP.pick (lv' := [(0, rv x0), (1, rv x1), (2, rv (fR h83 (fR h83 x1 3842) 3842))]) [1, 2, 0] rfl ?_
  exact hq
theorem rX5_program {G : xG} {fr lo : Nat} {x0 : Nat} {x1 : Nat} {h : xH} {Q : Outcome → xH → Prop} (hq : bX5_program G fr lo x0 x1 h Q) : xR G YX5_program fr lo [rv x0, rv x1] h Q := by
  show xP _ _ _ _ _ (lv_args 0 _) _ _ _
  rw [show lv_args 0 [rv x0, rv x1] = [(0, rv x0), (1, rv x1)] from (xla1 (rv_cat _) (xla1 (rv_cat _) xla0))]
  exact uX5_program hq
set_option maxRecDepth 100000 in
theorem dX5_fault_0 : decode cX5_fault 0 = .ok (.aload_n 0, 1) := by decide +kernel
set_option maxRecDepth 100000 in
theorem dX5_fault_1 : decode cX5_fault 1 = .ok (.getfield 58, 3) := by decide +kernel
set_option maxRecDepth 100000 in
theorem dX5_fault_4 : decode cX5_fault 4 = .ok (.iload_n 1, 1) := by decide +kernel
set_option maxRecDepth 100000 in
theorem dX5_fault_5 : decode cX5_fault 5 = .ok (.iload_n 2, 1) := by decide +kernel
set_option maxRecDepth 100000 in
theorem dX5_fault_6 : decode cX5_fault 6 = .ok (.invokevirtual 80, 3) := by decide +kernel
set_option maxRecDepth 100000 in
theorem dX5_fault_9 : decode cX5_fault 9 = .ok (.areturn, 1) := by decide +kernel
set_option maxRecDepth 100000 in
def bX5_fault (G : xG) (fr lo : Nat) (x0 : Nat) (x1 : Int32) (x2 : Int32) (h : xH) (Q : Outcome → xH → Prop) : Prop := tg h x0 = 6 ∧ tg h (fR h x0 1280) = 2 ∧ 1 ≤ fr ∧ 14 ≤ lo ∧ xRr G YX1_at (fr - 1) (lo - 14) [rv (fR h x0 1280), .int x1, .int x2] h (fun x6 h5 => xext h h5 → Q (.returned (some (rv x6))) h5) (fun r h2 => Q (.threw r) h2)
set_option maxRecDepth 100000 in
theorem uX5_fault {G : xG} {fr lo : Nat} {x0 : Nat} {x1 : Int32} {x2 : Int32} {h : xH} {Q : Outcome → xH → Prop} (hq : bX5_fault G fr lo x0 x1 x2 h Q) : xP G YX5_fault fr lo 0 [(0, rv x0), (1, .int x1), (2, .int x2)] [] h Q := by
  unfold bX5_fault at hq
  refine x_aload_n 0 dX5_fault_0 rfl ?_
  obtain ⟨g1, hq⟩ := hq
  refine x_get (v := rv (fR h x0 1280)) fdX5_58 dX5_fault_1 g1 rfl ?_
  refine x_iload_n 1 dX5_fault_4 rfl ?_
  refine x_iload_n 2 dX5_fault_5 rfl ?_
  obtain ⟨g2, hq⟩ := hq
  obtain ⟨g3, g4, hq⟩ := hq
  refine x_callV (Yc := YX1_at) (as := [.int x1, .int x2]) (st := []) q2091 mvX1_at g2 rfl dX5_fault_6 (xle (xal1 (rv_cat _) (xal1 rfl (xal1 rfl xal0))) (by decide)) (xfr g3) (xlo xsw0 (by decide) g4) (xKr hq (fun x6 h5 hq e7 => ?_) (fun _ _ q _ => q))
  replace hq := hq e7
  exact x_aret rfl xty_O dX5_fault_9 hq
theorem rX5_fault {G : xG} {fr lo : Nat} {x0 : Nat} {x1 : Int32} {x2 : Int32} {h : xH} {Q : Outcome → xH → Prop} (hq : bX5_fault G fr lo x0 x1 x2 h Q) : xR G YX5_fault fr lo [rv x0, .int x1, .int x2] h Q := by
  show xP _ _ _ _ _ (lv_args 0 _) _ _ _
  rw [show lv_args 0 [rv x0, .int x1, .int x2] = [(0, rv x0), (1, .int x1), (2, .int x2)] from (xla1 (rv_cat _) (xla1 rfl (xla1 rfl xla0)))]
  exact uX5_fault hq
set_option maxRecDepth 100000 in
theorem dX5_heading_0 : decode cX5_heading 0 = .ok (.iconst 0, 1) := by decide +kernel
set_option maxRecDepth 100000 in
theorem dX5_heading_1 : decode cX5_heading 1 = .ok (.istore_n 3, 1) := by decide +kernel
set_option maxRecDepth 100000 in
theorem dX5_heading_2 : decode cX5_heading 2 = .ok (.aload_n 1, 1) := by decide +kernel
set_option maxRecDepth 100000 in
theorem dX5_heading_3 : decode cX5_heading 3 = .ok (.getfield 251, 3) := by decide +kernel
set_option maxRecDepth 100000 in
theorem dX5_heading_6 : decode cX5_heading 6 = .ok (.astore 4, 2) := by decide +kernel
set_option maxRecDepth 100000 in
theorem dX5_heading_8 : decode cX5_heading 8 = .ok (.aload 4, 2) := by decide +kernel
set_option maxRecDepth 100000 in
theorem dX5_heading_10 : decode cX5_heading 10 = .ok (.aload_n 2, 1) := by decide +kernel
set_option maxRecDepth 100000 in
theorem dX5_heading_11 : decode cX5_heading 11 = .ok (.if_acmp .eq 16, 3) := by decide +kernel
set_option maxRecDepth 100000 in
theorem dX5_heading_14 : decode cX5_heading 14 = .ok (.iinc 3 1, 3) := by decide +kernel
set_option maxRecDepth 100000 in
theorem dX5_heading_17 : decode cX5_heading 17 = .ok (.aload 4, 2) := by decide +kernel
set_option maxRecDepth 100000 in
theorem dX5_heading_19 : decode cX5_heading 19 = .ok (.getfield 307, 3) := by decide +kernel
set_option maxRecDepth 100000 in
theorem dX5_heading_22 : decode cX5_heading 22 = .ok (.astore 4, 2) := by decide +kernel
set_option maxRecDepth 100000 in
theorem dX5_heading_24 : decode cX5_heading 24 = .ok (.goto (-16), 3) := by decide +kernel
set_option maxRecDepth 100000 in
theorem dX5_heading_27 : decode cX5_heading 27 = .ok (.iload_n 3, 1) := by decide +kernel
set_option maxRecDepth 100000 in
theorem dX5_heading_28 : decode cX5_heading 28 = .ok (.bipush 8, 2) := by decide +kernel
set_option maxRecDepth 100000 in
theorem dX5_heading_30 : decode cX5_heading 30 = .ok (.if_icmp .ne 14, 3) := by decide +kernel
set_option maxRecDepth 100000 in
theorem dX5_heading_33 : decode cX5_heading 33 = .ok (.aload_n 0, 1) := by decide +kernel
set_option maxRecDepth 100000 in
theorem dX5_heading_34 : decode cX5_heading 34 = .ok (.bipush 9, 2) := by decide +kernel
set_option maxRecDepth 100000 in
theorem dX5_heading_36 : decode cX5_heading 36 = .ok (.aload_n 2, 1) := by decide +kernel
set_option maxRecDepth 100000 in
theorem dX5_heading_37 : decode cX5_heading 37 = .ok (.invokevirtual 192, 3) := by decide +kernel
set_option maxRecDepth 100000 in
theorem dX5_heading_40 : decode cX5_heading 40 = .ok (.invokevirtual 163, 3) := by decide +kernel
set_option maxRecDepth 100000 in
theorem dX5_heading_43 : decode cX5_heading 43 = .ok (.athrow, 1) := by decide +kernel
set_option maxRecDepth 100000 in
theorem dX5_heading_44 : decode cX5_heading 44 = .ok (.aload_n 2, 1) := by decide +kernel
set_option maxRecDepth 100000 in
theorem dX5_heading_45 : decode cX5_heading 45 = .ok (.invokevirtual 173, 3) := by decide +kernel
set_option maxRecDepth 100000 in
theorem dX5_heading_48 : decode cX5_heading 48 = .ok (.ldc_w 442, 3) := by decide +kernel
set_option maxRecDepth 100000 in
theorem dX5_heading_51 : decode cX5_heading 51 = .ok (.invokevirtual 261, 3) := by decide +kernel
set_option maxRecDepth 100000 in
theorem dX5_heading_54 : decode cX5_heading 54 = .ok (.istore 4, 2) := by decide +kernel
set_option maxRecDepth 100000 in
theorem dX5_heading_56 : decode cX5_heading 56 = .ok (.iload 4, 2) := by decide +kernel
set_option maxRecDepth 100000 in
theorem dX5_heading_58 : decode cX5_heading 58 = .ok (.ifCond .ne 17, 3) := by decide +kernel
set_option maxRecDepth 100000 in
theorem dX5_heading_61 : decode cX5_heading 61 = .ok (.aload_n 2, 1) := by decide +kernel
set_option maxRecDepth 100000 in
theorem dX5_heading_62 : decode cX5_heading 62 = .ok (.invokevirtual 173, 3) := by decide +kernel
set_option maxRecDepth 100000 in
theorem dX5_heading_65 : decode cX5_heading 65 = .ok (.ldc_w 443, 3) := by decide +kernel
set_option maxRecDepth 100000 in
theorem dX5_heading_68 : decode cX5_heading 68 = .ok (.invokevirtual 261, 3) := by decide +kernel
set_option maxRecDepth 100000 in
theorem dX5_heading_71 : decode cX5_heading 71 = .ok (.ifCond .ne 4, 3) := by decide +kernel
set_option maxRecDepth 100000 in
theorem dX5_heading_74 : decode cX5_heading 74 = .ok (.return_, 1) := by decide +kernel
set_option maxRecDepth 100000 in
theorem dX5_heading_75 : decode cX5_heading 75 = .ok (.new 103, 3) := by decide +kernel
set_option maxRecDepth 100000 in
theorem dX5_heading_78 : decode cX5_heading 78 = .ok (.dup, 1) := by decide +kernel
set_option maxRecDepth 100000 in
theorem dX5_heading_79 : decode cX5_heading 79 = .ok (.iconst 2, 1) := by decide +kernel
set_option maxRecDepth 100000 in
theorem dX5_heading_80 : decode cX5_heading 80 = .ok (.aload_n 2, 1) := by decide +kernel
set_option maxRecDepth 100000 in
theorem dX5_heading_81 : decode cX5_heading 81 = .ok (.invokevirtual 173, 3) := by decide +kernel
set_option maxRecDepth 100000 in
theorem dX5_heading_84 : decode cX5_heading 84 = .ok (.aload_n 0, 1) := by decide +kernel
set_option maxRecDepth 100000 in
theorem dX5_heading_85 : decode cX5_heading 85 = .ok (.getfield 39, 3) := by decide +kernel
set_option maxRecDepth 100000 in
theorem dX5_heading_88 : decode cX5_heading 88 = .ok (.invokespecial 109, 3) := by decide +kernel
set_option maxRecDepth 100000 in
theorem dX5_heading_91 : decode cX5_heading 91 = .ok (.astore 5, 2) := by decide +kernel
set_option maxRecDepth 100000 in
theorem dX5_heading_93 : decode cX5_heading 93 = .ok (.aload_n 0, 1) := by decide +kernel
set_option maxRecDepth 100000 in
theorem dX5_heading_94 : decode cX5_heading 94 = .ok (.aload 5, 2) := by decide +kernel
set_option maxRecDepth 100000 in
theorem dX5_heading_96 : decode cX5_heading 96 = .ok (.aload_n 0, 1) := by decide +kernel
set_option maxRecDepth 100000 in
theorem dX5_heading_97 : decode cX5_heading 97 = .ok (.getfield 411, 3) := by decide +kernel
set_option maxRecDepth 100000 in
theorem dX5_heading_100 : decode cX5_heading 100 = .ok (.invokevirtual 444, 3) := by decide +kernel
set_option maxRecDepth 100000 in
theorem dX5_heading_103 : decode cX5_heading 103 = .ok (.aload_n 0, 1) := by decide +kernel
set_option maxRecDepth 100000 in
theorem dX5_heading_104 : decode cX5_heading 104 = .ok (.aload_n 0, 1) := by decide +kernel
set_option maxRecDepth 100000 in
theorem dX5_heading_105 : decode cX5_heading 105 = .ok (.getfield 411, 3) := by decide +kernel
set_option maxRecDepth 100000 in
theorem dX5_heading_108 : decode cX5_heading 108 = .ok (.getfield 415, 3) := by decide +kernel
set_option maxRecDepth 100000 in
theorem dX5_heading_111 : decode cX5_heading 111 = .ok (.aload 5, 2) := by decide +kernel
set_option maxRecDepth 100000 in
theorem dX5_heading_113 : decode cX5_heading 113 = .ok (.aload_n 2, 1) := by decide +kernel
set_option maxRecDepth 100000 in
theorem dX5_heading_114 : decode cX5_heading 114 = .ok (.invokevirtual 192, 3) := by decide +kernel
set_option maxRecDepth 100000 in
theorem dX5_heading_117 : decode cX5_heading 117 = .ok (.invokevirtual 303, 3) := by decide +kernel
set_option maxRecDepth 100000 in
theorem dX5_heading_120 : decode cX5_heading 120 = .ok (.iload 4, 2) := by decide +kernel
set_option maxRecDepth 100000 in
theorem dX5_heading_122 : decode cX5_heading 122 = .ok (.ifCond .eq 12, 3) := by decide +kernel
set_option maxRecDepth 100000 in
theorem dX5_heading_125 : decode cX5_heading 125 = .ok (.aload_n 0, 1) := by decide +kernel
set_option maxRecDepth 100000 in
theorem dX5_heading_126 : decode cX5_heading 126 = .ok (.aload 5, 2) := by decide +kernel
set_option maxRecDepth 100000 in
theorem dX5_heading_128 : decode cX5_heading 128 = .ok (.putfield 419, 3) := by decide +kernel
set_option maxRecDepth 100000 in
theorem dX5_heading_131 : decode cX5_heading 131 = .ok (.goto 9, 3) := by decide +kernel
set_option maxRecDepth 100000 in
theorem dX5_heading_134 : decode cX5_heading 134 = .ok (.aload_n 0, 1) := by decide +kernel
set_option maxRecDepth 100000 in
theorem dX5_heading_135 : decode cX5_heading 135 = .ok (.aload 5, 2) := by decide +kernel
set_option maxRecDepth 100000 in
theorem dX5_heading_137 : decode cX5_heading 137 = .ok (.putfield 423, 3) := by decide +kernel
set_option maxRecDepth 100000 in
theorem dX5_heading_140 : decode cX5_heading 140 = .ok (.return_, 1) := by decide +kernel
def lX5_heading_8 (G : xG) (fr lo : Nat) (x0 : Nat) (x2 : Nat) (x3 : Int32) (x4 : Nat) (h : xH) (Q : Outcome → xH → Prop) : Prop := xP G YX5_heading fr lo 8 [(0, rv x0), (2, rv x2), (3, .int x3), (4, rv x4)] [] h Q
set_option maxRecDepth 100000 in
def bX5_heading_140 (G : xG) (fr lo : Nat) (h : xH) (Q : Outcome → xH → Prop) : Prop := Q (.returned none) h
set_option maxRecDepth 100000 in
theorem uX5_heading_140 {G : xG} {fr lo : Nat} {h : xH} {Q : Outcome → xH → Prop} (hq : bX5_heading_140 G fr lo h Q) : xP G YX5_heading fr lo 140 [] [] h Q := by
  unfold bX5_heading_140 at hq
  exact x_vret rfl dX5_heading_140 hq
set_option maxRecDepth 100000 in
def bX5_heading_75 (G : xG) (fr lo : Nat) (x0 : Nat) (x2 : Nat) (x4 : Int32) (h : xH) (Q : Outcome → xH → Prop) : Prop := nx h + 1 ≤ xGN G ∧ us h + 12 ≤ xGU G ∧ (∀ (a3 : Nat) (h4 : xH), a3 = nx h + 1 → h4 = nO h 9 12 → xfresh h a3 → tg h4 x2 = 16 ∧ 1 ≤ fr ∧ 15 ≤ lo ∧ xRr G YX15_text (fr - 1) (lo - 15) [rv x2] h4 (fun x13 h12 => xext h4 h12 → tg h12 x0 = 6 ∧ 1 ≤ fr ∧ 16 ≤ lo ∧ xRv G YX8_init (fr - 1) (lo - 16) [rv a3, .int 2, rv x13, rv (fR h12 x0 1286)] h12 (fun h19 => xext h12 h19 → 1 ≤ fr ∧ 14 ≤ lo ∧ xRv G YX5_place (fr - 1) (lo - 14) [rv x0, rv a3, rv (fR h19 x0 1304)] h19 (fun h25 => xext h19 h25 → tg h25 (fR h25 x0 1304) = 17 ∧ 1 ≤ fr ∧ 15 ≤ lo ∧ xRi G YX15_place (fr - 1) (lo - 15) [rv x2] h25 (fun x36 h35 => xext h25 h35 → 1 ≤ fr ∧ 15 ≤ lo ∧ xRv G YX5_define (fr - 1) (lo - 15) [rv x0, rv (fR h25 (fR h25 x0 1304) 4101), rv a3, .int x36] h35 (fun h41 => xext h35 h41 → ((x4 = 0 → (∀ h46 : xH, h46 = sR h41 x0 1306 a3 → bX5_heading_140 G fr lo h46 Q)) ∧ (¬ x4 = 0 → (∀ h49 : xH, h49 = sR h41 x0 1305 a3 → bX5_heading_140 G fr lo h49 Q)))) (fun r h2 => Q (.threw r) h2)) (fun r h2 => Q (.threw r) h2)) (fun r h2 => Q (.threw r) h2)) (fun r h2 => Q (.threw r) h2)) (fun r h2 => Q (.threw r) h2))
set_option maxRecDepth 100000 in
theorem uX5_heading_75 {G : xG} {fr lo : Nat} {x0 : Nat} {x2 : Nat} {x4 : Int32} {h : xH} {Q : Outcome → xH → Prop} (hq : bX5_heading_75 G fr lo x0 x2 x4 h Q) : xP G YX5_heading fr lo 75 [(0, rv x0), (2, rv x2), (4, .int x4)] [] h Q := by
  unfold bX5_heading_75 at hq
  obtain ⟨g1, g2, hq⟩ := hq
  obtain ⟨a3, e5⟩ : ∃ y, y = nx h + 1 := ⟨_, rfl⟩
  obtain ⟨h4, e6⟩ : ∃ y, y = nO h 9 12 := ⟨_, rfl⟩
  refine x_new' cdX5_103 dX5_heading_75 g1 g2 e5 e6 (fun f7 => ?_)
  replace hq := hq a3 h4 e5 e6 f7
  have t8 : tg h4 a3 = 9 := by rw [e6, e5]; exact tg_nO
  refine x_dup dX5_heading_78 (rv_cat _) ?_
  refine x_iconst (v := 2) dX5_heading_79 (by decide) ?_
  refine x_aload_n 1 dX5_heading_80 rfl ?_
  obtain ⟨g9, hq⟩ := hq
  obtain ⟨g10, g11, hq⟩ := hq
  refine x_callV (Yc := YX15_text) (as := []) (st := [.int 2, rv a3, rv a3]) q2009 mvX15_text g9 rfl dX5_heading_81 (xle (xal1 (rv_cat _) xal0) (by decide)) (xfr g10) (xlo (xsw1 rfl (xsw1 (rv_cat _) (xsw1 (rv_cat _) xsw0))) (by decide) g11) (xKr hq (fun x13 h12 hq e14 => ?_) (fun _ _ q _ => q))
  replace hq := hq e14
  refine x_aload_n 0 dX5_heading_84 rfl ?_
  obtain ⟨g15, hq⟩ := hq
  refine x_get (v := rv (fR h12 x0 1286)) fdX5_39 dX5_heading_85 g15 rfl ?_
  have t16 : tg h12 a3 = 9 := e14.tg t8 (by decide)
  obtain ⟨g17, g18, hq⟩ := hq
  refine x_callI (Yc := YX8_init) (as := [.int 2, rv x13, rv (fR h12 x0 1286)]) (st := [rv a3]) q961 miX8_init (by rw [t16]; decide) rfl dX5_heading_88 (xle (xal1 (rv_cat _) (xal1 rfl (xal1 (rv_cat _) (xal1 (rv_cat _) xal0)))) (by decide)) (xfr g17) (xlo (xsw1 (rv_cat _) xsw0) (by decide) g18) (xKv hq (fun h19 hq e21 => ?_) (fun _ _ q _ => q))
  replace hq := hq e21
  refine x_astore (lv' := [(5, rv a3), (0, rv x0), (2, rv x2), (4, .int x4)]) dX5_heading_91 (by decide) rfl ?_
  refine x_aload_n 1 dX5_heading_93 rfl ?_
  refine x_aload 0 dX5_heading_94 rfl ?_
  refine x_aload_n 1 dX5_heading_96 rfl ?_
  have t22 : tg h19 x0 = 6 := e21.tg g15 (by decide)
  refine x_get (v := rv (fR h19 x0 1304)) fdX5_411 dX5_heading_97 t22 rfl ?_
  obtain ⟨g23, g24, hq⟩ := hq
  refine x_callV (Yc := YX5_place) (as := [rv a3, rv (fR h19 x0 1304)]) (st := []) q2098 mvX5_place t22 rfl dX5_heading_100 (xle (xal1 (rv_cat _) (xal1 (rv_cat _) (xal1 (rv_cat _) xal0))) (by decide)) (xfr g23) (xlo xsw0 (by decide) g24) (xKv hq (fun h25 hq e27 => ?_) (fun _ _ q _ => q))
  replace hq := hq e27
  refine x_aload_n 1 dX5_heading_103 rfl ?_
  refine x_aload_n 1 dX5_heading_104 rfl ?_
  have t28 : tg h25 x0 = 6 := e27.tg t22 (by decide)
  refine x_get (v := rv (fR h25 x0 1304)) fdX5_411 dX5_heading_105 t28 rfl ?_
  obtain ⟨g29, hq⟩ := hq
  refine x_getN (v := rv (fR h25 (fR h25 x0 1304) 4101)) gfX5_415 dX5_heading_108 g29 rfl ?_
  refine x_aload 0 dX5_heading_111 rfl ?_
  refine x_aload_n 2 dX5_heading_113 rfl ?_
  have t30 : tg h12 x2 = 16 := e14.tg g9 (by decide)
  have t31 : tg h19 x2 = 16 := e21.tg t30 (by decide)
  have t32 : tg h25 x2 = 16 := e27.tg t31 (by decide)
  obtain ⟨g33, g34, hq⟩ := hq
  refine x_callV (Yc := YX15_place) (as := []) (st := [rv a3, rv (fR h25 (fR h25 x0 1304) 4101), rv x0]) q2013 mvX15_place t32 rfl dX5_heading_114 (xle (xal1 (rv_cat _) xal0) (by decide)) (xfr g33) (xlo (xsw1 (rv_cat _) (xsw1 (rv_cat _) (xsw1 (rv_cat _) xsw0))) (by decide) g34) (xKi hq (fun x36 h35 hq e37 => ?_) (fun _ _ q _ => q))
  replace hq := hq e37
  have t38 : tg h35 x0 = 6 := e37.tg t28 (by decide)
  obtain ⟨g39, g40, hq⟩ := hq
  refine x_callV (Yc := YX5_define) (as := [rv (fR h25 (fR h25 x0 1304) 4101), rv a3, .int x36]) (st := []) q2103 mvX5_define t38 rfl dX5_heading_117 (xle (xal1 (rv_cat _) (xal1 (rv_cat _) (xal1 (rv_cat _) (xal1 rfl xal0)))) (by decide)) (xfr g39) (xlo xsw0 (by decide) g40) (xKv hq (fun h41 hq e43 => ?_) (fun _ _ q _ => q))
  replace hq := hq e43
  refine x_iload 3 dX5_heading_120 rfl ?_
  refine x_if_eq (tgt := 134) dX5_heading_122 (by decide) (fun c44 => ?_) (fun c44 => ?_)
  · replace hq := hq.1 c44
    refine x_aload_n 1 dX5_heading_134 rfl ?_
    refine x_aload 0 dX5_heading_135 rfl ?_
    have t45 : tg h41 x0 = 6 := e43.tg t38 (by decide)
    obtain ⟨h46, e47⟩ : ∃ y, y = sR h41 x0 1306 a3 := ⟨_, rfl⟩
    replace hq := hq h46 e47
    refine x_putR fdX5_423 xty_O dX5_heading_137 t45 (Or.inl (by rw [t45]; rfl)) rfl e47 ?_
    refine xP.pick (lv' := []) [] rfl ?_
    exact uX5_heading_140 hq
  · replace hq := hq.2 c44
    refine x_aload_n 1 dX5_heading_125 rfl ?_
    refine x_aload 0 dX5_heading_126 rfl ?_
    have t48 : tg h41 x0 = 6 := e43.tg t38 (by decide)
    obtain ⟨h49, e50⟩ : ∃ y, y = sR h41 x0 1305 a3 := ⟨_, rfl⟩
    replace hq := hq h49 e50
    refine x_putR fdX5_419 xty_O dX5_heading_128 t48 (Or.inl (by rw [t48]; rfl)) rfl e50 ?_
    refine x_goto (tgt := 140) dX5_heading_131 (by decide) ?_
    refine xP.pick (lv' := []) [] rfl ?_
    exact uX5_heading_140 hq
set_option maxRecDepth 100000 in
def bX5_heading_8 (G : xG) (fr lo : Nat) (x0 : Nat) (x2 : Nat) (x3 : Int32) (x4 : Nat) (h : xH) (Q : Outcome → xH → Prop) : Prop := ((x4 = x2 → ((¬ x3 = 8 → tg h x2 = 16 ∧ 1 ≤ fr ∧ 12 ≤ lo ∧ xRr G YX15_text (fr - 1) (lo - 12) [rv x2] h (fun x7 h6 => xext h h6 → tg h6 x7 = 31 ∧ 1 ≤ fr ∧ 14 ≤ lo ∧ xRi G YJ5_equals (fr - 1) (lo - 14) [rv x7, rv (tx G 68)] h6 (fun x13 h12 => xext h6 h12 → ((¬ x13 = 0 → bX5_heading_75 G fr lo x0 x2 x13 h12 Q) ∧ (x13 = 0 → 1 ≤ fr ∧ 12 ≤ lo ∧ xRr G YX15_text (fr - 1) (lo - 12) [rv x2] h12 (fun x21 h20 => xext h12 h20 → tg h20 x21 = 31 ∧ 1 ≤ fr ∧ 14 ≤ lo ∧ xRi G YJ5_equals (fr - 1) (lo - 14) [rv x21, rv (tx G 69)] h20 (fun x27 h26 => xext h20 h26 → ((¬ x27 = 0 → bX5_heading_75 G fr lo x0 x2 x13 h26 Q) ∧ (x27 = 0 → Q (.returned none) h26))) (fun r h2 => Q (.threw r) h2)) (fun r h2 => Q (.threw r) h2)))) (fun r h2 => Q (.threw r) h2)) (fun r h2 => Q (.threw r) h2)) ∧ (x3 = 8 → tg h x2 = 16 ∧ 1 ≤ fr ∧ 14 ≤ lo ∧ xRi G YX15_place (fr - 1) (lo - 14) [rv x2] h (fun x34 h33 => xext h h33 → tg h33 x0 = 6 ∧ 1 ≤ fr ∧ 14 ≤ lo ∧ xRr G YX5_fault (fr - 1) (lo - 14) [rv x0, .int 9, .int x34] h33 (fun x40 h39 => xext h33 h39 → (∃ r42, x40 = r42 + 1 ∧ Q (.threw r42) h39)) (fun r h2 => Q (.threw r) h2)) (fun r h2 => Q (.threw r) h2)))) ∧ (¬ x4 = x2 → tg h x4 = 16 ∧ lX5_heading_8 G fr lo x0 x2 (x3 + 1) (fR h x4 3844) h Q))
set_option maxRecDepth 100000 in
theorem uX5_heading_8 {G : xG} {fr lo : Nat} {x0 : Nat} {x2 : Nat} {x3 : Int32} {x4 : Nat} {h : xH} {Q : Outcome → xH → Prop} (hq : bX5_heading_8 G fr lo x0 x2 x3 x4 h Q) : xP G YX5_heading fr lo 8 [(0, rv x0), (2, rv x2), (3, .int x3), (4, rv x4)] [] h Q := by
  unfold bX5_heading_8 at hq
  refine x_aload 3 dX5_heading_8 rfl ?_
  refine x_aload_n 1 dX5_heading_10 rfl ?_
  refine x_acmp_eq (tgt := 27) dX5_heading_11 (by decide) (fun c1 => ?_) (fun c1 => ?_)
  · replace hq := hq.1 c1
    refine x_iload_n 2 dX5_heading_27 rfl ?_
    refine x_bipush (v := 8) dX5_heading_28 (by decide) ?_
    refine x_icmp_ne (tgt := 44) dX5_heading_30 (by decide) (fun c2 => ?_) (fun c2 => ?_)
    · replace hq := hq.1 c2
      refine x_aload_n 1 dX5_heading_44 rfl ?_
      obtain ⟨g3, hq⟩ := hq
      obtain ⟨g4, g5, hq⟩ := hq
      refine x_callV (Yc := YX15_text) (as := []) (st := []) q2009 mvX15_text g3 rfl dX5_heading_45 (xle (xal1 (rv_cat _) xal0) (by decide)) (xfr g4) (xlo xsw0 (by decide) g5) (xKr hq (fun x7 h6 hq e8 => ?_) (fun _ _ q _ => q))
      replace hq := hq e8
      refine x_ldcwS (n := 68) 124 srX5_442 dX5_heading_48 ?_
      obtain ⟨g9, hq⟩ := hq
      obtain ⟨g10, g11, hq⟩ := hq
      refine x_callV (Yc := YJ5_equals) (as := [rv (tx G 68)]) (st := []) q2086 mvJ5_equals g9 rfl dX5_heading_51 (xle (xal1 (rv_cat _) (xal1 (rv_cat _) xal0)) (by decide)) (xfr g10) (xlo xsw0 (by decide) g11) (xKi hq (fun x13 h12 hq e14 => ?_) (fun _ _ q _ => q))
      replace hq := hq e14
      refine x_istore (lv' := [(4, .int x13), (0, rv x0), (2, rv x2), (3, .int x3)]) dX5_heading_54 (by decide) rfl ?_
      refine x_iload 0 dX5_heading_56 rfl ?_
      refine x_if_ne (tgt := 75) dX5_heading_58 (by decide) (fun c15 => ?_) (fun c15 => ?_)
      · replace hq := hq.1 c15
        refine xP.pick (lv' := [(0, rv x0), (2, rv x2), (4, .int x13)]) [1, 2, 0] rfl ?_
        exact uX5_heading_75 hq
      · replace hq := hq.2 c15
        refine x_aload_n 2 dX5_heading_61 rfl ?_
        have t16 : tg h6 x2 = 16 := e8.tg g3 (by decide)
        have t17 : tg h12 x2 = 16 := e14.tg t16 (by decide)
        obtain ⟨g18, g19, hq⟩ := hq
        refine x_callV (Yc := YX15_text) (as := []) (st := []) q2009 mvX15_text t17 rfl dX5_heading_62 (xle (xal1 (rv_cat _) xal0) (by decide)) (xfr g18) (xlo xsw0 (by decide) g19) (xKr hq (fun x21 h20 hq e22 => ?_) (fun _ _ q _ => q))
        replace hq := hq e22
        refine x_ldcwS (n := 69) 125 srX5_443 dX5_heading_65 ?_
        obtain ⟨g23, hq⟩ := hq
        obtain ⟨g24, g25, hq⟩ := hq
        refine x_callV (Yc := YJ5_equals) (as := [rv (tx G 69)]) (st := []) q2086 mvJ5_equals g23 rfl dX5_heading_68 (xle (xal1 (rv_cat _) (xal1 (rv_cat _) xal0)) (by decide)) (xfr g24) (xlo xsw0 (by decide) g25) (xKi hq (fun x27 h26 hq e28 => ?_) (fun _ _ q _ => q))
        replace hq := hq e28
        refine x_if_ne (tgt := 75) dX5_heading_71 (by decide) (fun c29 => ?_) (fun c29 => ?_)
        · replace hq := hq.1 c29
          refine xP.pick (lv' := [(0, rv x0), (2, rv x2), (4, .int x13)]) [1, 2, 0] rfl ?_
          exact uX5_heading_75 hq
        · replace hq := hq.2 c29
          exact x_vret rfl dX5_heading_74 hq
    · replace hq := hq.2 c2
      refine x_aload_n 0 dX5_heading_33 rfl ?_
      refine x_bipush (v := 9) dX5_heading_34 (by decide) ?_
      refine x_aload_n 1 dX5_heading_36 rfl ?_
      obtain ⟨g30, hq⟩ := hq
      obtain ⟨g31, g32, hq⟩ := hq
      refine x_callV (Yc := YX15_place) (as := []) (st := [.int 9, rv x0]) q2013 mvX15_place g30 rfl dX5_heading_37 (xle (xal1 (rv_cat _) xal0) (by decide)) (xfr g31) (xlo (xsw1 rfl (xsw1 (rv_cat _) xsw0)) (by decide) g32) (xKi hq (fun x34 h33 hq e35 => ?_) (fun _ _ q _ => q))
      replace hq := hq e35
      obtain ⟨g36, hq⟩ := hq
      obtain ⟨g37, g38, hq⟩ := hq
      refine x_callV (Yc := YX5_fault) (as := [.int 9, .int x34]) (st := []) q2087 mvX5_fault g36 rfl dX5_heading_40 (xle (xal1 (rv_cat _) (xal1 rfl (xal1 rfl xal0))) (by decide)) (xfr g37) (xlo xsw0 (by decide) g38) (xKr hq (fun x40 h39 hq e41 => ?_) (fun _ _ q _ => q))
      replace hq := hq e41
      obtain ⟨r42, g43, hq⟩ := hq
      rw [g43]
      exact x_athrow dX5_heading_43 hq
  · replace hq := hq.2 c1
    refine x_iinc (lv' := [(3, .int (x3 + 1)), (0, rv x0), (2, rv x2), (4, rv x4)]) 2 dX5_heading_14 rfl (by decide) (by first | rfl | (simp [rv_cat, Value.category]; done) | (simp [rv_cat, Value.category]; decide)) ?_
    refine x_aload 3 dX5_heading_17 rfl ?_
    obtain ⟨g44, hq⟩ := hq
    refine x_getN (v := rv (fR h x4 3844)) gfX5_307 dX5_heading_19 g44 rfl ?_
    refine x_astore (lv' := [(4, rv (fR h x4 3844)), (3, .int (x3 + 1)), (0, rv x0), (2, rv x2)]) dX5_heading_22 (by decide) rfl ?_
    refine x_goto (tgt := 8) dX5_heading_24 (by decide) ?_
    refine xP.pick (lv' := [(0, rv x0), (2, rv x2), (3, .int (x3 + 1)), (4, rv (fR h x4 3844))]) [2, 3, 1, 0] rfl ?_
    exact hq
set_option maxRecDepth 100000 in
def bX5_heading (G : xG) (fr lo : Nat) (x0 : Nat) (x1 : Nat) (x2 : Nat) (h : xH) (Q : Outcome → xH → Prop) : Prop := tg h x1 = 16 ∧ lX5_heading_8 G fr lo x0 x2 0 (fR h x1 3842) h Q
set_option maxRecDepth 100000 in
theorem uX5_heading {G : xG} {fr lo : Nat} {x0 : Nat} {x1 : Nat} {x2 : Nat} {h : xH} {Q : Outcome → xH → Prop} (hq : bX5_heading G fr lo x0 x1 x2 h Q) : xP G YX5_heading fr lo 0 [(0, rv x0), (1, rv x1), (2, rv x2)] [] h Q := by
  unfold bX5_heading at hq
  refine x_iconst (v := 0) dX5_heading_0 (by decide) ?_
  refine x_istore_n (lv' := [(3, .int 0), (0, rv x0), (1, rv x1), (2, rv x2)]) dX5_heading_1 (by decide) (by first | rfl | (simp [rv_cat, Value.category]; done) | (simp [rv_cat, Value.category]; decide)) ?_
  refine x_aload_n 2 dX5_heading_2 rfl ?_
  obtain ⟨g1, hq⟩ := hq
  refine x_getN (v := rv (fR h x1 3842)) gfX5_251 dX5_heading_3 g1 rfl ?_
  refine x_astore (lv' := [(4, rv (fR h x1 3842)), (3, .int 0), (0, rv x0), (1, rv x1), (2, rv x2)]) dX5_heading_6 (by decide) rfl ?_
  refine xP.pick (lv' := [(0, rv x0), (2, rv x2), (3, .int 0), (4, rv (fR h x1 3842))]) [2, 4, 1, 0] rfl ?_
  exact hq
theorem rX5_heading {G : xG} {fr lo : Nat} {x0 : Nat} {x1 : Nat} {x2 : Nat} {h : xH} {Q : Outcome → xH → Prop} (hq : bX5_heading G fr lo x0 x1 x2 h Q) : xR G YX5_heading fr lo [rv x0, rv x1, rv x2] h Q := by
  show xP _ _ _ _ _ (lv_args 0 _) _ _ _
  rw [show lv_args 0 [rv x0, rv x1, rv x2] = [(0, rv x0), (1, rv x1), (2, rv x2)] from (xla1 (rv_cat _) (xla1 (rv_cat _) (xla1 (rv_cat _) xla0)))]
  exact uX5_heading hq
set_option maxRecDepth 100000 in
theorem dX5_place_0 : decode cX5_place 0 = .ok (.aload_n 1, 1) := by decide +kernel
set_option maxRecDepth 100000 in
theorem dX5_place_1 : decode cX5_place 1 = .ok (.aload_n 2, 1) := by decide +kernel
set_option maxRecDepth 100000 in
theorem dX5_place_2 : decode cX5_place 2 = .ok (.getfield 447, 3) := by decide +kernel
set_option maxRecDepth 100000 in
theorem dX5_place_5 : decode cX5_place 5 = .ok (.putfield 450, 3) := by decide +kernel
set_option maxRecDepth 100000 in
theorem dX5_place_8 : decode cX5_place 8 = .ok (.aload_n 1, 1) := by decide +kernel
set_option maxRecDepth 100000 in
theorem dX5_place_9 : decode cX5_place 9 = .ok (.aload_n 2, 1) := by decide +kernel
set_option maxRecDepth 100000 in
theorem dX5_place_10 : decode cX5_place 10 = .ok (.getfield 451, 3) := by decide +kernel
set_option maxRecDepth 100000 in
theorem dX5_place_13 : decode cX5_place 13 = .ok (.putfield 454, 3) := by decide +kernel
set_option maxRecDepth 100000 in
theorem dX5_place_16 : decode cX5_place 16 = .ok (.aload_n 2, 1) := by decide +kernel
set_option maxRecDepth 100000 in
theorem dX5_place_17 : decode cX5_place 17 = .ok (.aload_n 2, 1) := by decide +kernel
set_option maxRecDepth 100000 in
theorem dX5_place_18 : decode cX5_place 18 = .ok (.getfield 451, 3) := by decide +kernel
set_option maxRecDepth 100000 in
theorem dX5_place_21 : decode cX5_place 21 = .ok (.aload_n 1, 1) := by decide +kernel
set_option maxRecDepth 100000 in
theorem dX5_place_22 : decode cX5_place 22 = .ok (.getfield 249, 3) := by decide +kernel
set_option maxRecDepth 100000 in
theorem dX5_place_25 : decode cX5_place 25 = .ok (.getfield 66, 3) := by decide +kernel
set_option maxRecDepth 100000 in
theorem dX5_place_28 : decode cX5_place 28 = .ok (.iadd, 1) := by decide +kernel
set_option maxRecDepth 100000 in
theorem dX5_place_29 : decode cX5_place 29 = .ok (.ldc_w 457, 3) := by decide +kernel
set_option maxRecDepth 100000 in
theorem dX5_place_32 : decode cX5_place 32 = .ok (.if_icmp .le 9, 3) := by decide +kernel
set_option maxRecDepth 100000 in
theorem dX5_place_35 : decode cX5_place 35 = .ok (.ldc_w 457, 3) := by decide +kernel
set_option maxRecDepth 100000 in
theorem dX5_place_38 : decode cX5_place 38 = .ok (.goto 15, 3) := by decide +kernel
set_option maxRecDepth 100000 in
theorem dX5_place_41 : decode cX5_place 41 = .ok (.aload_n 2, 1) := by decide +kernel
set_option maxRecDepth 100000 in
theorem dX5_place_42 : decode cX5_place 42 = .ok (.getfield 451, 3) := by decide +kernel
set_option maxRecDepth 100000 in
theorem dX5_place_45 : decode cX5_place 45 = .ok (.aload_n 1, 1) := by decide +kernel
set_option maxRecDepth 100000 in
theorem dX5_place_46 : decode cX5_place 46 = .ok (.getfield 249, 3) := by decide +kernel
set_option maxRecDepth 100000 in
theorem dX5_place_49 : decode cX5_place 49 = .ok (.getfield 66, 3) := by decide +kernel
set_option maxRecDepth 100000 in
theorem dX5_place_52 : decode cX5_place 52 = .ok (.iadd, 1) := by decide +kernel
set_option maxRecDepth 100000 in
theorem dX5_place_53 : decode cX5_place 53 = .ok (.putfield 451, 3) := by decide +kernel
set_option maxRecDepth 100000 in
theorem dX5_place_56 : decode cX5_place 56 = .ok (.aload_n 1, 1) := by decide +kernel
set_option maxRecDepth 100000 in
theorem dX5_place_57 : decode cX5_place 57 = .ok (.getfield 249, 3) := by decide +kernel
set_option maxRecDepth 100000 in
theorem dX5_place_60 : decode cX5_place 60 = .ok (.getfield 289, 3) := by decide +kernel
set_option maxRecDepth 100000 in
theorem dX5_place_63 : decode cX5_place 63 = .ok (.bipush 10, 2) := by decide +kernel
set_option maxRecDepth 100000 in
theorem dX5_place_65 : decode cX5_place 65 = .ok (.if_icmp .ne 12, 3) := by decide +kernel
set_option maxRecDepth 100000 in
theorem dX5_place_68 : decode cX5_place 68 = .ok (.aload_n 2, 1) := by decide +kernel
set_option maxRecDepth 100000 in
theorem dX5_place_69 : decode cX5_place 69 = .ok (.getfield 458, 3) := by decide +kernel
set_option maxRecDepth 100000 in
theorem dX5_place_72 : decode cX5_place 72 = .ok (.aload_n 1, 1) := by decide +kernel
set_option maxRecDepth 100000 in
theorem dX5_place_73 : decode cX5_place 73 = .ok (.invokevirtual 120, 3) := by decide +kernel
set_option maxRecDepth 100000 in
theorem dX5_place_76 : decode cX5_place 76 = .ok (.pop, 1) := by decide +kernel
set_option maxRecDepth 100000 in
theorem dX5_place_77 : decode cX5_place 77 = .ok (.return_, 1) := by decide +kernel
set_option maxRecDepth 100000 in
def bX5_place_77 (G : xG) (fr lo : Nat) (h : xH) (Q : Outcome → xH → Prop) : Prop := Q (.returned none) h
set_option maxRecDepth 100000 in
theorem uX5_place_77 {G : xG} {fr lo : Nat} {h : xH} {Q : Outcome → xH → Prop} (hq : bX5_place_77 G fr lo h Q) : xP G YX5_place fr lo 77 [] [] h Q := by
  unfold bX5_place_77 at hq
  exact x_vret rfl dX5_place_77 hq
set_option maxRecDepth 100000 in
def bX5_place_53 (G : xG) (fr lo : Nat) (x1 : Nat) (x2 : Nat) (s0 : Int32) (s1 : Nat) (h : xH) (Q : Outcome → xH → Prop) : Prop := tg h s1 = 17 ∧ (∀ h2 : xH, h2 = sI h s1 4104 s0 → tg h2 x1 = 9 ∧ tg h2 (fR h2 x1 2050) = 7 ∧ ((¬ (fI h2 (fR h2 x1 2050) 1536) = 10 → bX5_place_77 G fr lo h2 Q) ∧ ((fI h2 (fR h2 x1 2050) 1536) = 10 → tg h2 x2 = 17 ∧ tg h2 (fR h2 x2 4111) = 29 ∧ 1 ≤ fr ∧ 13 ≤ lo ∧ xRi G YJ2_add (fr - 1) (lo - 13) [rv (fR h2 x2 4111), rv x1] h2 (fun x12 h11 => xext h2 h11 → bX5_place_77 G fr lo h11 Q) (fun r h2 => Q (.threw r) h2))))
set_option maxRecDepth 100000 in
theorem uX5_place_53 {G : xG} {fr lo : Nat} {x1 : Nat} {x2 : Nat} {s0 : Int32} {s1 : Nat} {h : xH} {Q : Outcome → xH → Prop} (hq : bX5_place_53 G fr lo x1 x2 s0 s1 h Q) : xP G YX5_place fr lo 53 [(1, rv x1), (2, rv x2)] [.int s0, rv s1] h Q := by
  unfold bX5_place_53 at hq
  obtain ⟨g1, hq⟩ := hq
  obtain ⟨h2, e3⟩ : ∃ y, y = sI h s1 4104 s0 := ⟨_, rfl⟩
  replace hq := hq h2 e3
  refine x_putNI gfX5_451 xty_I1 dX5_place_53 g1 (Or.inl (by rw [g1]; rfl)) xnI rfl e3 ?_
  refine x_aload_n 0 dX5_place_56 rfl ?_
  obtain ⟨g4, hq⟩ := hq
  refine x_getN (v := rv (fR h2 x1 2050)) gfX5_249 dX5_place_57 g4 rfl ?_
  obtain ⟨g5, hq⟩ := hq
  refine x_getN (v := .int (fI h2 (fR h2 x1 2050) 1536)) gfX5_289 dX5_place_60 g5 rfl ?_
  refine x_bipush (v := 10) dX5_place_63 (by decide) ?_
  refine x_icmp_ne (tgt := 77) dX5_place_65 (by decide) (fun c6 => ?_) (fun c6 => ?_)
  · replace hq := hq.1 c6
    refine xP.pick (lv' := []) [] rfl ?_
    exact uX5_place_77 hq
  · replace hq := hq.2 c6
    refine x_aload_n 1 dX5_place_68 rfl ?_
    obtain ⟨g7, hq⟩ := hq
    refine x_getN (v := rv (fR h2 x2 4111)) gfX5_458 dX5_place_69 g7 rfl ?_
    refine x_aload_n 0 dX5_place_72 rfl ?_
    obtain ⟨g8, hq⟩ := hq
    obtain ⟨g9, g10, hq⟩ := hq
    refine x_callV (Yc := YJ2_add) (as := [rv x1]) (st := []) q1009 mvJ2_add g8 rfl dX5_place_73 (xle (xal1 (rv_cat _) (xal1 (rv_cat _) xal0)) (by decide)) (xfr g9) (xlo xsw0 (by decide) g10) (xKi hq (fun x12 h11 hq e13 => ?_) (fun _ _ q _ => q))
    replace hq := hq e13
    refine x_pop dX5_place_76 rfl ?_
    refine xP.pick (lv' := []) [] rfl ?_
    exact uX5_place_77 hq
set_option maxRecDepth 100000 in
def bX5_place (G : xG) (fr lo : Nat) (x0 : Nat) (x1 : Nat) (x2 : Nat) (h : xH) (Q : Outcome → xH → Prop) : Prop := tg h x2 = 17 ∧ tg h x1 = 9 ∧ (∀ h3 : xH, h3 = sI h x1 2052 (fI h x2 4102) → (∀ h7 : xH, h7 = sI h3 x1 2053 (fI h3 x2 4104) → tg h7 (fR h7 x1 2050) = 7 ∧ ((((fI h7 x2 4104) + (fI h7 (fR h7 x1 2050) 1543)) ≤ 1000000 → bX5_place_53 G fr lo x1 x2 ((fI h7 x2 4104) + (fI h7 (fR h7 x1 2050) 1543)) x2 h7 Q) ∧ (¬ ((fI h7 x2 4104) + (fI h7 (fR h7 x1 2050) 1543)) ≤ 1000000 → bX5_place_53 G fr lo x1 x2 1000000 x2 h7 Q))))
set_option maxRecDepth 100000 in
theorem uX5_place {G : xG} {fr lo : Nat} {x0 : Nat} {x1 : Nat} {x2 : Nat} {h : xH} {Q : Outcome → xH → Prop} (hq : bX5_place G fr lo x0 x1 x2 h Q) : xP G YX5_place fr lo 0 [(0, rv x0), (1, rv x1), (2, rv x2)] [] h Q := by
  unfold bX5_place at hq
  refine x_aload_n 1 dX5_place_0 rfl ?_
  refine x_aload_n 2 dX5_place_1 rfl ?_
  obtain ⟨g1, hq⟩ := hq
  refine x_getN (v := .int (fI h x2 4102)) gfX5_447 dX5_place_2 g1 rfl ?_
  obtain ⟨g2, hq⟩ := hq
  obtain ⟨h3, e4⟩ : ∃ y, y = sI h x1 2052 (fI h x2 4102) := ⟨_, rfl⟩
  replace hq := hq h3 e4
  refine x_putNI gfX5_450 xty_I1 dX5_place_5 g2 (Or.inl (by rw [g2]; rfl)) xnI rfl e4 ?_
  refine x_aload_n 1 dX5_place_8 rfl ?_
  refine x_aload_n 2 dX5_place_9 rfl ?_
  have t5 : tg h3 x2 = 17 := by rw [e4]; exact g1
  refine x_getN (v := .int (fI h3 x2 4104)) gfX5_451 dX5_place_10 t5 rfl ?_
  have t6 : tg h3 x1 = 9 := by rw [e4]; exact g2
  obtain ⟨h7, e8⟩ : ∃ y, y = sI h3 x1 2053 (fI h3 x2 4104) := ⟨_, rfl⟩
  replace hq := hq h7 e8
  refine x_putNI gfX5_454 xty_I1 dX5_place_13 t6 (Or.inl (by rw [t6]; rfl)) xnI rfl e8 ?_
  refine x_aload_n 2 dX5_place_16 rfl ?_
  refine x_aload_n 2 dX5_place_17 rfl ?_
  have t9 : tg h7 x2 = 17 := by rw [e8]; exact t5
  refine x_getN (v := .int (fI h7 x2 4104)) gfX5_451 dX5_place_18 t9 rfl ?_
  refine x_aload_n 1 dX5_place_21 rfl ?_
  have t10 : tg h7 x1 = 9 := by rw [e8]; exact t6
  refine x_getN (v := rv (fR h7 x1 2050)) gfX5_249 dX5_place_22 t10 rfl ?_
  obtain ⟨g11, hq⟩ := hq
  refine x_getN (v := .int (fI h7 (fR h7 x1 2050) 1543)) gfX5_66 dX5_place_25 g11 rfl ?_
  refine x_iadd dX5_place_28 ?_
  refine x_ldcw (v := 1000000) q2102 dX5_place_29 ?_
  refine x_icmp_le (tgt := 41) dX5_place_32 (by decide) (fun c12 => ?_) (fun c12 => ?_)
  · replace hq := hq.1 c12
    refine x_aload_n 2 dX5_place_41 rfl ?_
    refine x_getN (v := .int (fI h7 x2 4104)) gfX5_451 dX5_place_42 t9 rfl ?_
    refine x_aload_n 1 dX5_place_45 rfl ?_
    refine x_getN (v := rv (fR h7 x1 2050)) gfX5_249 dX5_place_46 t10 rfl ?_
    refine x_getN (v := .int (fI h7 (fR h7 x1 2050) 1543)) gfX5_66 dX5_place_49 g11 rfl ?_
    refine x_iadd dX5_place_52 ?_
    refine xP.pick (lv' := [(1, rv x1), (2, rv x2)]) [1, 2] rfl ?_
    exact uX5_place_53 hq
  · replace hq := hq.2 c12
    refine x_ldcw (v := 1000000) q2102 dX5_place_35 ?_
    refine x_goto (tgt := 53) dX5_place_38 (by decide) ?_
    refine xP.pick (lv' := [(1, rv x1), (2, rv x2)]) [1, 2] rfl ?_
    exact uX5_place_53 hq
theorem rX5_place {G : xG} {fr lo : Nat} {x0 : Nat} {x1 : Nat} {x2 : Nat} {h : xH} {Q : Outcome → xH → Prop} (hq : bX5_place G fr lo x0 x1 x2 h Q) : xR G YX5_place fr lo [rv x0, rv x1, rv x2] h Q := by
  show xP _ _ _ _ _ (lv_args 0 _) _ _ _
  rw [show lv_args 0 [rv x0, rv x1, rv x2] = [(0, rv x0), (1, rv x1), (2, rv x2)] from (xla1 (rv_cat _) (xla1 (rv_cat _) (xla1 (rv_cat _) xla0)))]
  exact uX5_place hq
set_option maxRecDepth 100000 in
theorem dX5_define_0 : decode cX5_define 0 = .ok (.aload_n 1, 1) := by decide +kernel
set_option maxRecDepth 100000 in
theorem dX5_define_1 : decode cX5_define 1 = .ok (.aload_n 2, 1) := by decide +kernel
set_option maxRecDepth 100000 in
theorem dX5_define_2 : decode cX5_define 2 = .ok (.getfield 155, 3) := by decide +kernel
set_option maxRecDepth 100000 in
theorem dX5_define_5 : decode cX5_define 5 = .ok (.invokevirtual 159, 3) := by decide +kernel
set_option maxRecDepth 100000 in
theorem dX5_define_8 : decode cX5_define 8 = .ok (.ifnull 10, 3) := by decide +kernel
set_option maxRecDepth 100000 in
theorem dX5_define_11 : decode cX5_define 11 = .ok (.aload_n 0, 1) := by decide +kernel
set_option maxRecDepth 100000 in
theorem dX5_define_12 : decode cX5_define 12 = .ok (.iconst 5, 1) := by decide +kernel
set_option maxRecDepth 100000 in
theorem dX5_define_13 : decode cX5_define 13 = .ok (.iload_n 3, 1) := by decide +kernel
set_option maxRecDepth 100000 in
theorem dX5_define_14 : decode cX5_define 14 = .ok (.invokevirtual 163, 3) := by decide +kernel
set_option maxRecDepth 100000 in
theorem dX5_define_17 : decode cX5_define 17 = .ok (.athrow, 1) := by decide +kernel
set_option maxRecDepth 100000 in
theorem dX5_define_18 : decode cX5_define 18 = .ok (.aload_n 1, 1) := by decide +kernel
set_option maxRecDepth 100000 in
theorem dX5_define_19 : decode cX5_define 19 = .ok (.getfield 115, 3) := by decide +kernel
set_option maxRecDepth 100000 in
theorem dX5_define_22 : decode cX5_define 22 = .ok (.aload_n 2, 1) := by decide +kernel
set_option maxRecDepth 100000 in
theorem dX5_define_23 : decode cX5_define 23 = .ok (.invokevirtual 120, 3) := by decide +kernel
set_option maxRecDepth 100000 in
theorem dX5_define_26 : decode cX5_define 26 = .ok (.pop, 1) := by decide +kernel
set_option maxRecDepth 100000 in
theorem dX5_define_27 : decode cX5_define 27 = .ok (.return_, 1) := by decide +kernel
set_option maxRecDepth 100000 in
def bX5_define (G : xG) (fr lo : Nat) (x0 : Nat) (x1 : Nat) (x2 : Nat) (x3 : Int32) (h : xH) (Q : Outcome → xH → Prop) : Prop := tg h x2 = 9 ∧ tg h x1 = 8 ∧ 1 ≤ fr ∧ 14 ≤ lo ∧ xRr G YX7_own (fr - 1) (lo - 14) [rv x1, rv (fR h x2 2049)] h (fun x6 h5 => xext h h5 → ((x6 = 0 → tg h5 (fR h5 x1 1792) = 29 ∧ 1 ≤ fr ∧ 13 ≤ lo ∧ xRi G YJ2_add (fr - 1) (lo - 13) [rv (fR h5 x1 1792), rv x2] h5 (fun x14 h13 => xext h5 h13 → Q (.returned none) h13) (fun r h2 => Q (.threw r) h2)) ∧ (¬ x6 = 0 → tg h5 x0 = 6 ∧ 1 ≤ fr ∧ 14 ≤ lo ∧ xRr G YX5_fault (fr - 1) (lo - 14) [rv x0, .int 5, .int x3] h5 (fun x20 h19 => xext h5 h19 → (∃ r22, x20 = r22 + 1 ∧ Q (.threw r22) h19)) (fun r h2 => Q (.threw r) h2)))) (fun r h2 => Q (.threw r) h2)
set_option maxRecDepth 100000 in
theorem uX5_define {G : xG} {fr lo : Nat} {x0 : Nat} {x1 : Nat} {x2 : Nat} {x3 : Int32} {h : xH} {Q : Outcome → xH → Prop} (hq : bX5_define G fr lo x0 x1 x2 x3 h Q) : xP G YX5_define fr lo 0 [(0, rv x0), (1, rv x1), (2, rv x2), (3, .int x3)] [] h Q := by
  unfold bX5_define at hq
  refine x_aload_n 1 dX5_define_0 rfl ?_
  refine x_aload_n 2 dX5_define_1 rfl ?_
  obtain ⟨g1, hq⟩ := hq
  refine x_getN (v := rv (fR h x2 2049)) gfX5_155 dX5_define_2 g1 rfl ?_
  obtain ⟨g2, hq⟩ := hq
  obtain ⟨g3, g4, hq⟩ := hq
  refine x_callV (Yc := YX7_own) (as := [rv (fR h x2 2049)]) (st := []) q2107 mvX7_own g2 rfl dX5_define_5 (xle (xal1 (rv_cat _) (xal1 (rv_cat _) xal0)) (by decide)) (xfr g3) (xlo xsw0 (by decide) g4) (xKr hq (fun x6 h5 hq e7 => ?_) (fun _ _ q _ => q))
  replace hq := hq e7
  refine x_ifnull (tgt := 18) dX5_define_8 (by decide) (fun c8 => ?_) (fun c8 => ?_)
  · replace hq := hq.1 c8
    refine x_aload_n 1 dX5_define_18 rfl ?_
    have t9 : tg h5 x1 = 8 := e7.tg g2 (by decide)
    refine x_getN (v := rv (fR h5 x1 1792)) gfX5_115 dX5_define_19 t9 rfl ?_
    refine x_aload_n 2 dX5_define_22 rfl ?_
    obtain ⟨g10, hq⟩ := hq
    obtain ⟨g11, g12, hq⟩ := hq
    refine x_callV (Yc := YJ2_add) (as := [rv x2]) (st := []) q1009 mvJ2_add g10 rfl dX5_define_23 (xle (xal1 (rv_cat _) (xal1 (rv_cat _) xal0)) (by decide)) (xfr g11) (xlo xsw0 (by decide) g12) (xKi hq (fun x14 h13 hq e15 => ?_) (fun _ _ q _ => q))
    replace hq := hq e15
    refine x_pop dX5_define_26 rfl ?_
    exact x_vret rfl dX5_define_27 hq
  · replace hq := hq.2 c8
    refine x_aload_n 0 dX5_define_11 rfl ?_
    refine x_iconst (v := 5) dX5_define_12 (by decide) ?_
    refine x_iload_n 3 dX5_define_13 rfl ?_
    obtain ⟨g16, hq⟩ := hq
    obtain ⟨g17, g18, hq⟩ := hq
    refine x_callV (Yc := YX5_fault) (as := [.int 5, .int x3]) (st := []) q2087 mvX5_fault g16 rfl dX5_define_14 (xle (xal1 (rv_cat _) (xal1 rfl (xal1 rfl xal0))) (by decide)) (xfr g17) (xlo xsw0 (by decide) g18) (xKr hq (fun x20 h19 hq e21 => ?_) (fun _ _ q _ => q))
    replace hq := hq e21
    obtain ⟨r22, g23, hq⟩ := hq
    rw [g23]
    exact x_athrow dX5_define_17 hq
theorem rX5_define {G : xG} {fr lo : Nat} {x0 : Nat} {x1 : Nat} {x2 : Nat} {x3 : Int32} {h : xH} {Q : Outcome → xH → Prop} (hq : bX5_define G fr lo x0 x1 x2 x3 h Q) : xR G YX5_define fr lo [rv x0, rv x1, rv x2, .int x3] h Q := by
  show xP _ _ _ _ _ (lv_args 0 _) _ _ _
  rw [show lv_args 0 [rv x0, rv x1, rv x2, .int x3] = [(0, rv x0), (1, rv x1), (2, rv x2), (3, .int x3)] from (xla1 (rv_cat _) (xla1 (rv_cat _) (xla1 (rv_cat _) (xla1 rfl xla0))))]
  exact uX5_define hq
set_option maxRecDepth 100000 in
theorem dX5_block_0 : decode cX5_block 0 = .ok (.new 301, 3) := by decide +kernel
set_option maxRecDepth 100000 in
theorem dX5_block_3 : decode cX5_block 3 = .ok (.dup, 1) := by decide +kernel
set_option maxRecDepth 100000 in
theorem dX5_block_4 : decode cX5_block 4 = .ok (.aload_n 0, 1) := by decide +kernel
set_option maxRecDepth 100000 in
theorem dX5_block_5 : decode cX5_block 5 = .ok (.getfield 296, 3) := by decide +kernel
set_option maxRecDepth 100000 in
theorem dX5_block_8 : decode cX5_block 8 = .ok (.aload_n 2, 1) := by decide +kernel
set_option maxRecDepth 100000 in
theorem dX5_block_9 : decode cX5_block 9 = .ok (.aload_n 2, 1) := by decide +kernel
set_option maxRecDepth 100000 in
theorem dX5_block_10 : decode cX5_block 10 = .ok (.getfield 415, 3) := by decide +kernel
set_option maxRecDepth 100000 in
theorem dX5_block_13 : decode cX5_block 13 = .ok (.invokespecial 461, 3) := by decide +kernel
set_option maxRecDepth 100000 in
theorem dX5_block_16 : decode cX5_block 16 = .ok (.astore 4, 2) := by decide +kernel
set_option maxRecDepth 100000 in
theorem dX5_block_18 : decode cX5_block 18 = .ok (.aload_n 0, 1) := by decide +kernel
set_option maxRecDepth 100000 in
theorem dX5_block_19 : decode cX5_block 19 = .ok (.aload 4, 2) := by decide +kernel
set_option maxRecDepth 100000 in
theorem dX5_block_21 : decode cX5_block 21 = .ok (.putfield 296, 3) := by decide +kernel
set_option maxRecDepth 100000 in
theorem dX5_block_24 : decode cX5_block 24 = .ok (.aload_n 0, 1) := by decide +kernel
set_option maxRecDepth 100000 in
theorem dX5_block_25 : decode cX5_block 25 = .ok (.aload_n 2, 1) := by decide +kernel
set_option maxRecDepth 100000 in
theorem dX5_block_26 : decode cX5_block 26 = .ok (.putfield 416, 3) := by decide +kernel
set_option maxRecDepth 100000 in
theorem dX5_block_29 : decode cX5_block 29 = .ok (.aload_n 1, 1) := by decide +kernel
set_option maxRecDepth 100000 in
theorem dX5_block_30 : decode cX5_block 30 = .ok (.iconst 0, 1) := by decide +kernel
set_option maxRecDepth 100000 in
theorem dX5_block_31 : decode cX5_block 31 = .ok (.invokevirtual 310, 3) := by decide +kernel
set_option maxRecDepth 100000 in
theorem dX5_block_34 : decode cX5_block 34 = .ok (.getfield 251, 3) := by decide +kernel
set_option maxRecDepth 100000 in
theorem dX5_block_37 : decode cX5_block 37 = .ok (.astore 5, 2) := by decide +kernel
set_option maxRecDepth 100000 in
theorem dX5_block_39 : decode cX5_block 39 = .ok (.aload 5, 2) := by decide +kernel
set_option maxRecDepth 100000 in
theorem dX5_block_41 : decode cX5_block 41 = .ok (.ifnull 97, 3) := by decide +kernel
set_option maxRecDepth 100000 in
theorem dX5_block_44 : decode cX5_block 44 = .ok (.aload 5, 2) := by decide +kernel
set_option maxRecDepth 100000 in
theorem dX5_block_46 : decode cX5_block 46 = .ok (.getfield 202, 3) := by decide +kernel
set_option maxRecDepth 100000 in
theorem dX5_block_49 : decode cX5_block 49 = .ok (.getfield 219, 3) := by decide +kernel
set_option maxRecDepth 100000 in
theorem dX5_block_52 : decode cX5_block 52 = .ok (.sipush 9999, 3) := by decide +kernel
set_option maxRecDepth 100000 in
theorem dX5_block_55 : decode cX5_block 55 = .ok (.if_icmp .le 15, 3) := by decide +kernel
set_option maxRecDepth 100000 in
theorem dX5_block_58 : decode cX5_block 58 = .ok (.aload_n 0, 1) := by decide +kernel
set_option maxRecDepth 100000 in
theorem dX5_block_59 : decode cX5_block 59 = .ok (.bipush 12, 2) := by decide +kernel
set_option maxRecDepth 100000 in
theorem dX5_block_61 : decode cX5_block 61 = .ok (.aload 5, 2) := by decide +kernel
set_option maxRecDepth 100000 in
theorem dX5_block_63 : decode cX5_block 63 = .ok (.invokevirtual 192, 3) := by decide +kernel
set_option maxRecDepth 100000 in
theorem dX5_block_66 : decode cX5_block 66 = .ok (.invokevirtual 163, 3) := by decide +kernel
set_option maxRecDepth 100000 in
theorem dX5_block_69 : decode cX5_block 69 = .ok (.athrow, 1) := by decide +kernel
set_option maxRecDepth 100000 in
theorem dX5_block_70 : decode cX5_block 70 = .ok (.aload 4, 2) := by decide +kernel
set_option maxRecDepth 100000 in
theorem dX5_block_72 : decode cX5_block 72 = .ok (.aload 5, 2) := by decide +kernel
set_option maxRecDepth 100000 in
theorem dX5_block_74 : decode cX5_block 74 = .ok (.getfield 202, 3) := by decide +kernel
set_option maxRecDepth 100000 in
theorem dX5_block_77 : decode cX5_block 77 = .ok (.getfield 219, 3) := by decide +kernel
set_option maxRecDepth 100000 in
theorem dX5_block_80 : decode cX5_block 80 = .ok (.invokevirtual 464, 3) := by decide +kernel
set_option maxRecDepth 100000 in
theorem dX5_block_83 : decode cX5_block 83 = .ok (.ifnull 14, 3) := by decide +kernel
set_option maxRecDepth 100000 in
theorem dX5_block_86 : decode cX5_block 86 = .ok (.aload_n 0, 1) := by decide +kernel
set_option maxRecDepth 100000 in
theorem dX5_block_87 : decode cX5_block 87 = .ok (.iconst 5, 1) := by decide +kernel
set_option maxRecDepth 100000 in
theorem dX5_block_88 : decode cX5_block 88 = .ok (.aload 5, 2) := by decide +kernel
set_option maxRecDepth 100000 in
theorem dX5_block_90 : decode cX5_block 90 = .ok (.invokevirtual 192, 3) := by decide +kernel
set_option maxRecDepth 100000 in
theorem dX5_block_93 : decode cX5_block 93 = .ok (.invokevirtual 163, 3) := by decide +kernel
set_option maxRecDepth 100000 in
theorem dX5_block_96 : decode cX5_block 96 = .ok (.athrow, 1) := by decide +kernel
set_option maxRecDepth 100000 in
theorem dX5_block_97 : decode cX5_block 97 = .ok (.aload 4, 2) := by decide +kernel
set_option maxRecDepth 100000 in
theorem dX5_block_99 : decode cX5_block 99 = .ok (.getfield 468, 3) := by decide +kernel
set_option maxRecDepth 100000 in
theorem dX5_block_102 : decode cX5_block 102 = .ok (.new 471, 3) := by decide +kernel
set_option maxRecDepth 100000 in
theorem dX5_block_105 : decode cX5_block 105 = .ok (.dup, 1) := by decide +kernel
set_option maxRecDepth 100000 in
theorem dX5_block_106 : decode cX5_block 106 = .ok (.aload 5, 2) := by decide +kernel
set_option maxRecDepth 100000 in
theorem dX5_block_108 : decode cX5_block 108 = .ok (.getfield 202, 3) := by decide +kernel
set_option maxRecDepth 100000 in
theorem dX5_block_111 : decode cX5_block 111 = .ok (.getfield 219, 3) := by decide +kernel
set_option maxRecDepth 100000 in
theorem dX5_block_114 : decode cX5_block 114 = .ok (.aload_n 0, 1) := by decide +kernel
set_option maxRecDepth 100000 in
theorem dX5_block_115 : decode cX5_block 115 = .ok (.getfield 62, 3) := by decide +kernel
set_option maxRecDepth 100000 in
theorem dX5_block_118 : decode cX5_block 118 = .ok (.invokevirtual 473, 3) := by decide +kernel
set_option maxRecDepth 100000 in
theorem dX5_block_121 : decode cX5_block 121 = .ok (.invokespecial 475, 3) := by decide +kernel
set_option maxRecDepth 100000 in
theorem dX5_block_124 : decode cX5_block 124 = .ok (.invokevirtual 120, 3) := by decide +kernel
set_option maxRecDepth 100000 in
theorem dX5_block_127 : decode cX5_block 127 = .ok (.pop, 1) := by decide +kernel
set_option maxRecDepth 100000 in
theorem dX5_block_128 : decode cX5_block 128 = .ok (.aload 5, 2) := by decide +kernel
set_option maxRecDepth 100000 in
theorem dX5_block_130 : decode cX5_block 130 = .ok (.getfield 307, 3) := by decide +kernel
set_option maxRecDepth 100000 in
theorem dX5_block_133 : decode cX5_block 133 = .ok (.astore 5, 2) := by decide +kernel
set_option maxRecDepth 100000 in
theorem dX5_block_135 : decode cX5_block 135 = .ok (.goto (-96), 3) := by decide +kernel
set_option maxRecDepth 100000 in
theorem dX5_block_138 : decode cX5_block 138 = .ok (.aload_n 1, 1) := by decide +kernel
set_option maxRecDepth 100000 in
theorem dX5_block_139 : decode cX5_block 139 = .ok (.iconst 1, 1) := by decide +kernel
set_option maxRecDepth 100000 in
theorem dX5_block_140 : decode cX5_block 140 = .ok (.invokevirtual 310, 3) := by decide +kernel
set_option maxRecDepth 100000 in
theorem dX5_block_143 : decode cX5_block 143 = .ok (.getfield 251, 3) := by decide +kernel
set_option maxRecDepth 100000 in
theorem dX5_block_146 : decode cX5_block 146 = .ok (.astore 5, 2) := by decide +kernel
set_option maxRecDepth 100000 in
theorem dX5_block_148 : decode cX5_block 148 = .ok (.aload 5, 2) := by decide +kernel
set_option maxRecDepth 100000 in
theorem dX5_block_150 : decode cX5_block 150 = .ok (.ifnull 65, 3) := by decide +kernel
set_option maxRecDepth 100000 in
theorem dX5_block_153 : decode cX5_block 153 = .ok (.aload_n 0, 1) := by decide +kernel
set_option maxRecDepth 100000 in
theorem dX5_block_154 : decode cX5_block 154 = .ok (.aload 5, 2) := by decide +kernel
set_option maxRecDepth 100000 in
theorem dX5_block_156 : decode cX5_block 156 = .ok (.getfield 251, 3) := by decide +kernel
set_option maxRecDepth 100000 in
theorem dX5_block_159 : decode cX5_block 159 = .ok (.invokevirtual 314, 3) := by decide +kernel
set_option maxRecDepth 100000 in
theorem dX5_block_162 : decode cX5_block 162 = .ok (.aload_n 0, 1) := by decide +kernel
set_option maxRecDepth 100000 in
theorem dX5_block_163 : decode cX5_block 163 = .ok (.aload 5, 2) := by decide +kernel
set_option maxRecDepth 100000 in
theorem dX5_block_165 : decode cX5_block 165 = .ok (.invokevirtual 173, 3) := by decide +kernel
set_option maxRecDepth 100000 in
theorem dX5_block_168 : decode cX5_block 168 = .ok (.aload_n 0, 1) := by decide +kernel
set_option maxRecDepth 100000 in
theorem dX5_block_169 : decode cX5_block 169 = .ok (.getfield 216, 3) := by decide +kernel
set_option maxRecDepth 100000 in
theorem dX5_block_172 : decode cX5_block 172 = .ok (.aload_n 0, 1) := by decide +kernel
set_option maxRecDepth 100000 in
theorem dX5_block_173 : decode cX5_block 173 = .ok (.getfield 222, 3) := by decide +kernel
set_option maxRecDepth 100000 in
theorem dX5_block_176 : decode cX5_block 176 = .ok (.invokevirtual 143, 3) := by decide +kernel
set_option maxRecDepth 100000 in
theorem dX5_block_179 : decode cX5_block 179 = .ok (.astore 6, 2) := by decide +kernel
set_option maxRecDepth 100000 in
theorem dX5_block_181 : decode cX5_block 181 = .ok (.aload 6, 2) := by decide +kernel
set_option maxRecDepth 100000 in
theorem dX5_block_183 : decode cX5_block 183 = .ok (.aload_n 0, 1) := by decide +kernel
set_option maxRecDepth 100000 in
theorem dX5_block_184 : decode cX5_block 184 = .ok (.getfield 231, 3) := by decide +kernel
set_option maxRecDepth 100000 in
theorem dX5_block_187 : decode cX5_block 187 = .ok (.putfield 250, 3) := by decide +kernel
set_option maxRecDepth 100000 in
theorem dX5_block_190 : decode cX5_block 190 = .ok (.aload_n 0, 1) := by decide +kernel
set_option maxRecDepth 100000 in
theorem dX5_block_191 : decode cX5_block 191 = .ok (.aload_n 2, 1) := by decide +kernel
set_option maxRecDepth 100000 in
theorem dX5_block_192 : decode cX5_block 192 = .ok (.getfield 415, 3) := by decide +kernel
set_option maxRecDepth 100000 in
theorem dX5_block_195 : decode cX5_block 195 = .ok (.aload 6, 2) := by decide +kernel
set_option maxRecDepth 100000 in
theorem dX5_block_197 : decode cX5_block 197 = .ok (.aload 5, 2) := by decide +kernel
set_option maxRecDepth 100000 in
theorem dX5_block_199 : decode cX5_block 199 = .ok (.invokevirtual 192, 3) := by decide +kernel
set_option maxRecDepth 100000 in
theorem dX5_block_202 : decode cX5_block 202 = .ok (.invokevirtual 303, 3) := by decide +kernel
set_option maxRecDepth 100000 in
theorem dX5_block_205 : decode cX5_block 205 = .ok (.aload 5, 2) := by decide +kernel
set_option maxRecDepth 100000 in
theorem dX5_block_207 : decode cX5_block 207 = .ok (.getfield 307, 3) := by decide +kernel
set_option maxRecDepth 100000 in
theorem dX5_block_210 : decode cX5_block 210 = .ok (.astore 5, 2) := by decide +kernel
set_option maxRecDepth 100000 in
theorem dX5_block_212 : decode cX5_block 212 = .ok (.goto (-64), 3) := by decide +kernel
set_option maxRecDepth 100000 in
theorem dX5_block_215 : decode cX5_block 215 = .ok (.aload_n 0, 1) := by decide +kernel
set_option maxRecDepth 100000 in
theorem dX5_block_216 : decode cX5_block 216 = .ok (.aload_n 1, 1) := by decide +kernel
set_option maxRecDepth 100000 in
theorem dX5_block_217 : decode cX5_block 217 = .ok (.iconst 2, 1) := by decide +kernel
set_option maxRecDepth 100000 in
theorem dX5_block_218 : decode cX5_block 218 = .ok (.invokevirtual 310, 3) := by decide +kernel
set_option maxRecDepth 100000 in
theorem dX5_block_221 : decode cX5_block 221 = .ok (.aload_n 2, 1) := by decide +kernel
set_option maxRecDepth 100000 in
theorem dX5_block_222 : decode cX5_block 222 = .ok (.getfield 415, 3) := by decide +kernel
set_option maxRecDepth 100000 in
theorem dX5_block_225 : decode cX5_block 225 = .ok (.invokevirtual 477, 3) := by decide +kernel
set_option maxRecDepth 100000 in
theorem dX5_block_228 : decode cX5_block 228 = .ok (.aload_n 1, 1) := by decide +kernel
set_option maxRecDepth 100000 in
theorem dX5_block_229 : decode cX5_block 229 = .ok (.iconst 3, 1) := by decide +kernel
set_option maxRecDepth 100000 in
theorem dX5_block_230 : decode cX5_block 230 = .ok (.invokevirtual 310, 3) := by decide +kernel
set_option maxRecDepth 100000 in
theorem dX5_block_233 : decode cX5_block 233 = .ok (.getfield 251, 3) := by decide +kernel
set_option maxRecDepth 100000 in
theorem dX5_block_236 : decode cX5_block 236 = .ok (.astore 5, 2) := by decide +kernel
set_option maxRecDepth 100000 in
theorem dX5_block_238 : decode cX5_block 238 = .ok (.aload 5, 2) := by decide +kernel
set_option maxRecDepth 100000 in
theorem dX5_block_240 : decode cX5_block 240 = .ok (.ifnull 20, 3) := by decide +kernel
set_option maxRecDepth 100000 in
theorem dX5_block_243 : decode cX5_block 243 = .ok (.aload_n 0, 1) := by decide +kernel
set_option maxRecDepth 100000 in
theorem dX5_block_244 : decode cX5_block 244 = .ok (.aload 5, 2) := by decide +kernel
set_option maxRecDepth 100000 in
theorem dX5_block_246 : decode cX5_block 246 = .ok (.aload_n 2, 1) := by decide +kernel
set_option maxRecDepth 100000 in
theorem dX5_block_247 : decode cX5_block 247 = .ok (.invokevirtual 481, 3) := by decide +kernel
set_option maxRecDepth 100000 in
theorem dX5_block_250 : decode cX5_block 250 = .ok (.aload 5, 2) := by decide +kernel
set_option maxRecDepth 100000 in
theorem dX5_block_252 : decode cX5_block 252 = .ok (.getfield 307, 3) := by decide +kernel
set_option maxRecDepth 100000 in
theorem dX5_block_255 : decode cX5_block 255 = .ok (.astore 5, 2) := by decide +kernel
set_option maxRecDepth 100000 in
theorem dX5_block_257 : decode cX5_block 257 = .ok (.goto (-19), 3) := by decide +kernel
set_option maxRecDepth 100000 in
theorem dX5_block_260 : decode cX5_block 260 = .ok (.aload_n 3, 1) := by decide +kernel
set_option maxRecDepth 100000 in
theorem dX5_block_261 : decode cX5_block 261 = .ok (.ifnull 34, 3) := by decide +kernel
set_option maxRecDepth 100000 in
theorem dX5_block_264 : decode cX5_block 264 = .ok (.aload_n 3, 1) := by decide +kernel
set_option maxRecDepth 100000 in
theorem dX5_block_265 : decode cX5_block 265 = .ok (.getfield 251, 3) := by decide +kernel
set_option maxRecDepth 100000 in
theorem dX5_block_268 : decode cX5_block 268 = .ok (.astore 5, 2) := by decide +kernel
set_option maxRecDepth 100000 in
theorem dX5_block_270 : decode cX5_block 270 = .ok (.aload 5, 2) := by decide +kernel
set_option maxRecDepth 100000 in
theorem dX5_block_272 : decode cX5_block 272 = .ok (.ifnull 23, 3) := by decide +kernel
set_option maxRecDepth 100000 in
theorem dX5_block_275 : decode cX5_block 275 = .ok (.aload_n 0, 1) := by decide +kernel
set_option maxRecDepth 100000 in
theorem dX5_block_276 : decode cX5_block 276 = .ok (.aload 5, 2) := by decide +kernel
set_option maxRecDepth 100000 in
theorem dX5_block_278 : decode cX5_block 278 = .ok (.aload_n 2, 1) := by decide +kernel
set_option maxRecDepth 100000 in
theorem dX5_block_279 : decode cX5_block 279 = .ok (.getfield 415, 3) := by decide +kernel
set_option maxRecDepth 100000 in
theorem dX5_block_282 : decode cX5_block 282 = .ok (.invokevirtual 485, 3) := by decide +kernel
set_option maxRecDepth 100000 in
theorem dX5_block_285 : decode cX5_block 285 = .ok (.aload 5, 2) := by decide +kernel
set_option maxRecDepth 100000 in
theorem dX5_block_287 : decode cX5_block 287 = .ok (.getfield 307, 3) := by decide +kernel
set_option maxRecDepth 100000 in
theorem dX5_block_290 : decode cX5_block 290 = .ok (.astore 5, 2) := by decide +kernel
set_option maxRecDepth 100000 in
theorem dX5_block_292 : decode cX5_block 292 = .ok (.goto (-22), 3) := by decide +kernel
set_option maxRecDepth 100000 in
theorem dX5_block_295 : decode cX5_block 295 = .ok (.aload_n 1, 1) := by decide +kernel
set_option maxRecDepth 100000 in
theorem dX5_block_296 : decode cX5_block 296 = .ok (.iconst 4, 1) := by decide +kernel
set_option maxRecDepth 100000 in
theorem dX5_block_297 : decode cX5_block 297 = .ok (.invokevirtual 310, 3) := by decide +kernel
set_option maxRecDepth 100000 in
theorem dX5_block_300 : decode cX5_block 300 = .ok (.getfield 251, 3) := by decide +kernel
set_option maxRecDepth 100000 in
theorem dX5_block_303 : decode cX5_block 303 = .ok (.astore 5, 2) := by decide +kernel
set_option maxRecDepth 100000 in
theorem dX5_block_305 : decode cX5_block 305 = .ok (.aload 5, 2) := by decide +kernel
set_option maxRecDepth 100000 in
theorem dX5_block_307 : decode cX5_block 307 = .ok (.ifnull 20, 3) := by decide +kernel
set_option maxRecDepth 100000 in
theorem dX5_block_310 : decode cX5_block 310 = .ok (.aload_n 0, 1) := by decide +kernel
set_option maxRecDepth 100000 in
theorem dX5_block_311 : decode cX5_block 311 = .ok (.aload 5, 2) := by decide +kernel
set_option maxRecDepth 100000 in
theorem dX5_block_313 : decode cX5_block 313 = .ok (.aload_n 2, 1) := by decide +kernel
set_option maxRecDepth 100000 in
theorem dX5_block_314 : decode cX5_block 314 = .ok (.invokevirtual 488, 3) := by decide +kernel
set_option maxRecDepth 100000 in
theorem dX5_block_317 : decode cX5_block 317 = .ok (.aload 5, 2) := by decide +kernel
set_option maxRecDepth 100000 in
theorem dX5_block_319 : decode cX5_block 319 = .ok (.getfield 307, 3) := by decide +kernel
set_option maxRecDepth 100000 in
theorem dX5_block_322 : decode cX5_block 322 = .ok (.astore 5, 2) := by decide +kernel
set_option maxRecDepth 100000 in
theorem dX5_block_324 : decode cX5_block 324 = .ok (.goto (-19), 3) := by decide +kernel
set_option maxRecDepth 100000 in
theorem dX5_block_327 : decode cX5_block 327 = .ok (.iconst 0, 1) := by decide +kernel
set_option maxRecDepth 100000 in
theorem dX5_block_328 : decode cX5_block 328 = .ok (.istore 5, 2) := by decide +kernel
set_option maxRecDepth 100000 in
theorem dX5_block_330 : decode cX5_block 330 = .ok (.iload 5, 2) := by decide +kernel
set_option maxRecDepth 100000 in
theorem dX5_block_332 : decode cX5_block 332 = .ok (.aload_n 2, 1) := by decide +kernel
set_option maxRecDepth 100000 in
theorem dX5_block_333 : decode cX5_block 333 = .ok (.getfield 415, 3) := by decide +kernel
set_option maxRecDepth 100000 in
theorem dX5_block_336 : decode cX5_block 336 = .ok (.getfield 115, 3) := by decide +kernel
set_option maxRecDepth 100000 in
theorem dX5_block_339 : decode cX5_block 339 = .ok (.invokevirtual 490, 3) := by decide +kernel
set_option maxRecDepth 100000 in
theorem dX5_block_342 : decode cX5_block 342 = .ok (.if_icmp .ge 73, 3) := by decide +kernel
set_option maxRecDepth 100000 in
theorem dX5_block_345 : decode cX5_block 345 = .ok (.aload_n 2, 1) := by decide +kernel
set_option maxRecDepth 100000 in
theorem dX5_block_346 : decode cX5_block 346 = .ok (.getfield 415, 3) := by decide +kernel
set_option maxRecDepth 100000 in
theorem dX5_block_349 : decode cX5_block 349 = .ok (.getfield 115, 3) := by decide +kernel
set_option maxRecDepth 100000 in
theorem dX5_block_352 : decode cX5_block 352 = .ok (.iload 5, 2) := by decide +kernel
set_option maxRecDepth 100000 in
theorem dX5_block_354 : decode cX5_block 354 = .ok (.invokevirtual 331, 3) := by decide +kernel
set_option maxRecDepth 100000 in
theorem dX5_block_357 : decode cX5_block 357 = .ok (.checkcast 103, 3) := by decide +kernel
set_option maxRecDepth 100000 in
theorem dX5_block_360 : decode cX5_block 360 = .ok (.astore 6, 2) := by decide +kernel
set_option maxRecDepth 100000 in
theorem dX5_block_362 : decode cX5_block 362 = .ok (.aload 6, 2) := by decide +kernel
set_option maxRecDepth 100000 in
theorem dX5_block_364 : decode cX5_block 364 = .ok (.getfield 199, 3) := by decide +kernel
set_option maxRecDepth 100000 in
theorem dX5_block_367 : decode cX5_block 367 = .ok (.iconst 3, 1) := by decide +kernel
set_option maxRecDepth 100000 in
theorem dX5_block_368 : decode cX5_block 368 = .ok (.if_icmp .ne 41, 3) := by decide +kernel
set_option maxRecDepth 100000 in
theorem dX5_block_371 : decode cX5_block 371 = .ok (.aload 6, 2) := by decide +kernel
set_option maxRecDepth 100000 in
theorem dX5_block_373 : decode cX5_block 373 = .ok (.getfield 492, 3) := by decide +kernel
set_option maxRecDepth 100000 in
theorem dX5_block_376 : decode cX5_block 376 = .ok (.getfield 493, 3) := by decide +kernel
set_option maxRecDepth 100000 in
theorem dX5_block_379 : decode cX5_block 379 = .ok (.ifCond .eq 30, 3) := by decide +kernel
set_option maxRecDepth 100000 in
theorem dX5_block_382 : decode cX5_block 382 = .ok (.aload 6, 2) := by decide +kernel
set_option maxRecDepth 100000 in
theorem dX5_block_384 : decode cX5_block 384 = .ok (.getfield 492, 3) := by decide +kernel
set_option maxRecDepth 100000 in
theorem dX5_block_387 : decode cX5_block 387 = .ok (.getfield 496, 3) := by decide +kernel
set_option maxRecDepth 100000 in
theorem dX5_block_390 : decode cX5_block 390 = .ok (.iconst (-1), 1) := by decide +kernel
set_option maxRecDepth 100000 in
theorem dX5_block_391 : decode cX5_block 391 = .ok (.if_icmp .ne 18, 3) := by decide +kernel
set_option maxRecDepth 100000 in
theorem dX5_block_394 : decode cX5_block 394 = .ok (.aload_n 0, 1) := by decide +kernel
set_option maxRecDepth 100000 in
theorem dX5_block_395 : decode cX5_block 395 = .ok (.bipush 10, 2) := by decide +kernel
set_option maxRecDepth 100000 in
theorem dX5_block_397 : decode cX5_block 397 = .ok (.aload 6, 2) := by decide +kernel
set_option maxRecDepth 100000 in
theorem dX5_block_399 : decode cX5_block 399 = .ok (.getfield 492, 3) := by decide +kernel
set_option maxRecDepth 100000 in
theorem dX5_block_402 : decode cX5_block 402 = .ok (.getfield 499, 3) := by decide +kernel
set_option maxRecDepth 100000 in
theorem dX5_block_405 : decode cX5_block 405 = .ok (.invokevirtual 163, 3) := by decide +kernel
set_option maxRecDepth 100000 in
theorem dX5_block_408 : decode cX5_block 408 = .ok (.athrow, 1) := by decide +kernel
set_option maxRecDepth 100000 in
theorem dX5_block_409 : decode cX5_block 409 = .ok (.iinc 5 1, 3) := by decide +kernel
set_option maxRecDepth 100000 in
theorem dX5_block_412 : decode cX5_block 412 = .ok (.goto (-82), 3) := by decide +kernel
set_option maxRecDepth 100000 in
theorem dX5_block_415 : decode cX5_block 415 = .ok (.aload_n 2, 1) := by decide +kernel
set_option maxRecDepth 100000 in
theorem dX5_block_416 : decode cX5_block 416 = .ok (.aload_n 0, 1) := by decide +kernel
set_option maxRecDepth 100000 in
theorem dX5_block_417 : decode cX5_block 417 = .ok (.getfield 62, 3) := by decide +kernel
set_option maxRecDepth 100000 in
theorem dX5_block_420 : decode cX5_block 420 = .ok (.getfield 501, 3) := by decide +kernel
set_option maxRecDepth 100000 in
theorem dX5_block_423 : decode cX5_block 423 = .ok (.putfield 496, 3) := by decide +kernel
set_option maxRecDepth 100000 in
theorem dX5_block_426 : decode cX5_block 426 = .ok (.aload_n 0, 1) := by decide +kernel
set_option maxRecDepth 100000 in
theorem dX5_block_427 : decode cX5_block 427 = .ok (.aload_n 1, 1) := by decide +kernel
set_option maxRecDepth 100000 in
theorem dX5_block_428 : decode cX5_block 428 = .ok (.iconst 5, 1) := by decide +kernel
set_option maxRecDepth 100000 in
theorem dX5_block_429 : decode cX5_block 429 = .ok (.invokevirtual 310, 3) := by decide +kernel
set_option maxRecDepth 100000 in
theorem dX5_block_432 : decode cX5_block 432 = .ok (.iconst 1, 1) := by decide +kernel
set_option maxRecDepth 100000 in
theorem dX5_block_433 : decode cX5_block 433 = .ok (.invokevirtual 502, 3) := by decide +kernel
set_option maxRecDepth 100000 in
theorem dX5_block_436 : decode cX5_block 436 = .ok (.aload_n 0, 1) := by decide +kernel
set_option maxRecDepth 100000 in
theorem dX5_block_437 : decode cX5_block 437 = .ok (.getfield 62, 3) := by decide +kernel
set_option maxRecDepth 100000 in
theorem dX5_block_440 : decode cX5_block 440 = .ok (.aload_n 2, 1) := by decide +kernel
set_option maxRecDepth 100000 in
theorem dX5_block_441 : decode cX5_block 441 = .ok (.aload_n 0, 1) := by decide +kernel
set_option maxRecDepth 100000 in
theorem dX5_block_442 : decode cX5_block 442 = .ok (.getfield 411, 3) := by decide +kernel
set_option maxRecDepth 100000 in
theorem dX5_block_445 : decode cX5_block 445 = .ok (.if_acmp .ne 8, 3) := by decide +kernel
set_option maxRecDepth 100000 in
theorem dX5_block_448 : decode cX5_block 448 = .ok (.bipush 66, 2) := by decide +kernel
set_option maxRecDepth 100000 in
theorem dX5_block_450 : decode cX5_block 450 = .ok (.goto 5, 3) := by decide +kernel
set_option maxRecDepth 100000 in
theorem dX5_block_453 : decode cX5_block 453 = .ok (.bipush 60, 2) := by decide +kernel
set_option maxRecDepth 100000 in
theorem dX5_block_455 : decode cX5_block 455 = .ok (.iconst 0, 1) := by decide +kernel
set_option maxRecDepth 100000 in
theorem dX5_block_456 : decode cX5_block 456 = .ok (.iconst 0, 1) := by decide +kernel
set_option maxRecDepth 100000 in
theorem dX5_block_457 : decode cX5_block 457 = .ok (.iconst 0, 1) := by decide +kernel
set_option maxRecDepth 100000 in
theorem dX5_block_458 : decode cX5_block 458 = .ok (.iconst 0, 1) := by decide +kernel
set_option maxRecDepth 100000 in
theorem dX5_block_459 : decode cX5_block 459 = .ok (.invokevirtual 506, 3) := by decide +kernel
set_option maxRecDepth 100000 in
theorem dX5_block_462 : decode cX5_block 462 = .ok (.pop, 1) := by decide +kernel
set_option maxRecDepth 100000 in
theorem dX5_block_463 : decode cX5_block 463 = .ok (.aload_n 0, 1) := by decide +kernel
set_option maxRecDepth 100000 in
theorem dX5_block_464 : decode cX5_block 464 = .ok (.aload 4, 2) := by decide +kernel
set_option maxRecDepth 100000 in
theorem dX5_block_466 : decode cX5_block 466 = .ok (.invokevirtual 510, 3) := by decide +kernel
set_option maxRecDepth 100000 in
theorem dX5_block_469 : decode cX5_block 469 = .ok (.aload_n 0, 1) := by decide +kernel
set_option maxRecDepth 100000 in
theorem dX5_block_470 : decode cX5_block 470 = .ok (.aload 4, 2) := by decide +kernel
set_option maxRecDepth 100000 in
theorem dX5_block_472 : decode cX5_block 472 = .ok (.getfield 514, 3) := by decide +kernel
set_option maxRecDepth 100000 in
theorem dX5_block_475 : decode cX5_block 475 = .ok (.putfield 296, 3) := by decide +kernel
set_option maxRecDepth 100000 in
theorem dX5_block_478 : decode cX5_block 478 = .ok (.aload_n 0, 1) := by decide +kernel
set_option maxRecDepth 100000 in
theorem dX5_block_479 : decode cX5_block 479 = .ok (.aload_n 0, 1) := by decide +kernel
set_option maxRecDepth 100000 in
theorem dX5_block_480 : decode cX5_block 480 = .ok (.getfield 296, 3) := by decide +kernel
set_option maxRecDepth 100000 in
theorem dX5_block_483 : decode cX5_block 483 = .ok (.ifnonnull 7, 3) := by decide +kernel
set_option maxRecDepth 100000 in
theorem dX5_block_486 : decode cX5_block 486 = .ok (.aconst_null, 1) := by decide +kernel
set_option maxRecDepth 100000 in
theorem dX5_block_487 : decode cX5_block 487 = .ok (.goto 10, 3) := by decide +kernel
set_option maxRecDepth 100000 in
theorem dX5_block_490 : decode cX5_block 490 = .ok (.aload_n 0, 1) := by decide +kernel
set_option maxRecDepth 100000 in
theorem dX5_block_491 : decode cX5_block 491 = .ok (.getfield 296, 3) := by decide +kernel
set_option maxRecDepth 100000 in
theorem dX5_block_494 : decode cX5_block 494 = .ok (.getfield 516, 3) := by decide +kernel
set_option maxRecDepth 100000 in
theorem dX5_block_497 : decode cX5_block 497 = .ok (.putfield 416, 3) := by decide +kernel
set_option maxRecDepth 100000 in
theorem dX5_block_500 : decode cX5_block 500 = .ok (.return_, 1) := by decide +kernel
def lX5_block_39 (G : xG) (fr lo : Nat) (x0 : Nat) (x1 : Nat) (x2 : Nat) (x3 : Nat) (x4 : Nat) (x5 : Nat) (h : xH) (Q : Outcome → xH → Prop) : Prop := xP G YX5_block fr lo 39 [(0, rv x0), (1, rv x1), (2, rv x2), (3, rv x3), (4, rv x4), (5, rv x5)] [] h Q
def lX5_block_148 (G : xG) (fr lo : Nat) (x0 : Nat) (x1 : Nat) (x2 : Nat) (x3 : Nat) (x4 : Nat) (x5 : Nat) (h : xH) (Q : Outcome → xH → Prop) : Prop := xP G YX5_block fr lo 148 [(0, rv x0), (1, rv x1), (2, rv x2), (3, rv x3), (4, rv x4), (5, rv x5)] [] h Q
def lX5_block_238 (G : xG) (fr lo : Nat) (x0 : Nat) (x1 : Nat) (x2 : Nat) (x3 : Nat) (x4 : Nat) (x5 : Nat) (h : xH) (Q : Outcome → xH → Prop) : Prop := xP G YX5_block fr lo 238 [(0, rv x0), (1, rv x1), (2, rv x2), (3, rv x3), (4, rv x4), (5, rv x5)] [] h Q
def lX5_block_270 (G : xG) (fr lo : Nat) (x0 : Nat) (x1 : Nat) (x2 : Nat) (x4 : Nat) (x5 : Nat) (h : xH) (Q : Outcome → xH → Prop) : Prop := xP G YX5_block fr lo 270 [(0, rv x0), (1, rv x1), (2, rv x2), (4, rv x4), (5, rv x5)] [] h Q
def lX5_block_305 (G : xG) (fr lo : Nat) (x0 : Nat) (x1 : Nat) (x2 : Nat) (x4 : Nat) (x5 : Nat) (h : xH) (Q : Outcome → xH → Prop) : Prop := xP G YX5_block fr lo 305 [(0, rv x0), (1, rv x1), (2, rv x2), (4, rv x4), (5, rv x5)] [] h Q
def lX5_block_330 (G : xG) (fr lo : Nat) (x0 : Nat) (x1 : Nat) (x2 : Nat) (x4 : Nat) (x5 : Int32) (h : xH) (Q : Outcome → xH → Prop) : Prop := xP G YX5_block fr lo 330 [(0, rv x0), (1, rv x1), (2, rv x2), (4, rv x4), (5, .int x5)] [] h Q
set_option maxRecDepth 100000 in
def bX5_block_497 (G : xG) (fr lo : Nat) (s0 : Nat) (s1 : Nat) (h : xH) (Q : Outcome → xH → Prop) : Prop := tg h s1 = 6 ∧ (∀ h2 : xH, h2 = sR h s1 1295 s0 → Q (.returned none) h2)
set_option maxRecDepth 100000 in
theorem uX5_block_497 {G : xG} {fr lo : Nat} {s0 : Nat} {s1 : Nat} {h : xH} {Q : Outcome → xH → Prop} (hq : bX5_block_497 G fr lo s0 s1 h Q) : xP G YX5_block fr lo 497 [] [rv s0, rv s1] h Q := by
  unfold bX5_block_497 at hq
  obtain ⟨g1, hq⟩ := hq
  obtain ⟨h2, e3⟩ : ∃ y, y = sR h s1 1295 s0 := ⟨_, rfl⟩
  replace hq := hq h2 e3
  refine x_putR fdX5_416 xty_O dX5_block_497 g1 (Or.inl (by rw [g1]; rfl)) rfl e3 ?_
  exact x_vret rfl dX5_block_500 hq
set_option maxRecDepth 100000 in
def bX5_block_455 (G : xG) (fr lo : Nat) (x0 : Nat) (x4 : Nat) (s0 : Int32) (s1 : Nat) (h : xH) (Q : Outcome → xH → Prop) : Prop := tg h s1 = 3 ∧ 1 ≤ fr ∧ 17 ≤ lo ∧ xRi G YX2_put (fr - 1) (lo - 17) [rv s1, .int s0, .int 0, .int 0, .int 0, .int 0] h (fun x5 h4 => xext h h4 → tg h4 x0 = 6 ∧ 1 ≤ fr ∧ 16 ≤ lo ∧ xRv G YX5_leaps (fr - 1) (lo - 16) [rv x0, rv x4] h4 (fun h10 => xext h4 h10 → tg h10 x4 = 18 ∧ (∀ h15 : xH, h15 = sR h10 x0 1294 (fR h10 x4 4352) → ((¬ (fR h15 x0 1294) = 0 → tg h15 (fR h15 x0 1294) = 18 ∧ bX5_block_497 G fr lo (fR h15 (fR h15 x0 1294) 4353) x0 h15 Q) ∧ ((fR h15 x0 1294) = 0 → bX5_block_497 G fr lo 0 x0 h15 Q)))) (fun r h2 => Q (.threw r) h2)) (fun r h2 => Q (.threw r) h2)
set_option maxRecDepth 100000 in
theorem uX5_block_455 {G : xG} {fr lo : Nat} {x0 : Nat} {x4 : Nat} {s0 : Int32} {s1 : Nat} {h : xH} {Q : Outcome → xH → Prop} (hq : bX5_block_455 G fr lo x0 x4 s0 s1 h Q) : xP G YX5_block fr lo 455 [(0, rv x0), (4, rv x4)] [.int s0, rv s1] h Q := by
  unfold bX5_block_455 at hq
  refine x_iconst (v := 0) dX5_block_455 (by decide) ?_
  refine x_iconst (v := 0) dX5_block_456 (by decide) ?_
  refine x_iconst (v := 0) dX5_block_457 (by decide) ?_
  refine x_iconst (v := 0) dX5_block_458 (by decide) ?_
  obtain ⟨g1, hq⟩ := hq
  obtain ⟨g2, g3, hq⟩ := hq
  refine x_callV (Yc := YX2_put) (as := [.int s0, .int 0, .int 0, .int 0, .int 0]) (st := []) q2494 mvX2_put g1 rfl dX5_block_459 (xle (xal1 (rv_cat _) (xal1 rfl (xal1 rfl (xal1 rfl (xal1 rfl (xal1 rfl xal0)))))) (by decide)) (xfr g2) (xlo xsw0 (by decide) g3) (xKi hq (fun x5 h4 hq e6 => ?_) (fun _ _ q _ => q))
  replace hq := hq e6
  refine x_pop dX5_block_462 rfl ?_
  refine x_aload_n 0 dX5_block_463 rfl ?_
  refine x_aload 1 dX5_block_464 rfl ?_
  obtain ⟨g7, hq⟩ := hq
  obtain ⟨g8, g9, hq⟩ := hq
  refine x_callV (Yc := YX5_leaps) (as := [rv x4]) (st := []) q2798 mvX5_leaps g7 rfl dX5_block_466 (xle (xal1 (rv_cat _) (xal1 (rv_cat _) xal0)) (by decide)) (xfr g8) (xlo xsw0 (by decide) g9) (xKv hq (fun h10 hq e12 => ?_) (fun _ _ q _ => q))
  replace hq := hq e12
  refine x_aload_n 0 dX5_block_469 rfl ?_
  refine x_aload 1 dX5_block_470 rfl ?_
  obtain ⟨g13, hq⟩ := hq
  refine x_getN (v := rv (fR h10 x4 4352)) gfX5_514 dX5_block_472 g13 rfl ?_
  have t14 : tg h10 x0 = 6 := e12.tg g7 (by decide)
  obtain ⟨h15, e16⟩ : ∃ y, y = sR h10 x0 1294 (fR h10 x4 4352) := ⟨_, rfl⟩
  replace hq := hq h15 e16
  refine x_putR fdX5_296 xty_O dX5_block_475 t14 (Or.inl (by rw [t14]; rfl)) rfl e16 ?_
  refine x_aload_n 0 dX5_block_478 rfl ?_
  refine x_aload_n 0 dX5_block_479 rfl ?_
  have t17 : tg h15 x0 = 6 := by rw [e16]; exact t14
  refine x_get (v := rv (fR h15 x0 1294)) fdX5_296 dX5_block_480 t17 rfl ?_
  refine x_ifnonnull (tgt := 490) dX5_block_483 (by decide) (fun c18 => ?_) (fun c18 => ?_)
  · replace hq := hq.1 c18
    refine x_aload_n 0 dX5_block_490 rfl ?_
    refine x_get (v := rv (fR h15 x0 1294)) fdX5_296 dX5_block_491 t17 rfl ?_
    obtain ⟨g19, hq⟩ := hq
    refine x_getN (v := rv (fR h15 (fR h15 x0 1294) 4353)) gfX5_516 dX5_block_494 g19 rfl ?_
    refine xP.pick (lv' := []) [] rfl ?_
    exact uX5_block_497 hq
  · replace hq := hq.2 c18
    refine x_null dX5_block_486 ?_
    refine x_goto (tgt := 497) dX5_block_487 (by decide) ?_
    refine xP.pick (lv' := []) [] rfl ?_
    exact uX5_block_497 hq
set_option maxRecDepth 100000 in
def bX5_block_409 (G : xG) (fr lo : Nat) (x0 : Nat) (x1 : Nat) (x2 : Nat) (x4 : Nat) (x5 : Int32) (h : xH) (Q : Outcome → xH → Prop) : Prop := lX5_block_330 G fr lo x0 x1 x2 x4 (x5 + 1) h Q
set_option maxRecDepth 100000 in
theorem uX5_block_409 {G : xG} {fr lo : Nat} {x0 : Nat} {x1 : Nat} {x2 : Nat} {x4 : Nat} {x5 : Int32} {h : xH} {Q : Outcome → xH → Prop} (hq : bX5_block_409 G fr lo x0 x1 x2 x4 x5 h Q) : xP G YX5_block fr lo 409 [(0, rv x0), (1, rv x1), (2, rv x2), (4, rv x4), (5, .int x5)] [] h Q := by
  unfold bX5_block_409 at hq
  refine x_iinc (lv' := [(5, .int (x5 + 1)), (0, rv x0), (1, rv x1), (2, rv x2), (4, rv x4)]) 4 dX5_block_409 rfl (by decide) (by first | rfl | (simp [rv_cat, Value.category]; done) | (simp [rv_cat, Value.category]; decide)) ?_
  refine x_goto (tgt := 330) dX5_block_412 (by decide) ?_
  refine xP.pick (lv' := [(0, rv x0), (1, rv x1), (2, rv x2), (4, rv x4), (5, .int (x5 + 1))]) [1, 2, 3, 4, 0] rfl ?_
  exact hq
set_option maxRecDepth 100000 in
def bX5_block_330 (G : xG) (fr lo : Nat) (x0 : Nat) (x1 : Nat) (x2 : Nat) (x4 : Nat) (x5 : Int32) (h : xH) (Q : Outcome → xH → Prop) : Prop := tg h x2 = 17 ∧ tg h (fR h x2 4101) = 8 ∧ tg h (fR h (fR h x2 4101) 1792) = 29 ∧ 1 ≤ fr ∧ 13 ≤ lo ∧ xRi G YJ2_size (fr - 1) (lo - 13) [rv (fR h (fR h x2 4101) 1792)] h (fun x7 h6 => xext h h6 → ((x7 ≤ x5 → tg h6 x0 = 6 ∧ tg h6 (fR h6 x0 1281) = 3 ∧ (∀ h13 : xH, h13 = sI h6 x2 4103 (fI h6 (fR h6 x0 1281) 517) → tg h13 x1 = 16 ∧ 1 ≤ fr ∧ 16 ≤ lo ∧ xRr G YX15_kid (fr - 1) (lo - 16) [rv x1, .int 5] h13 (fun x19 h18 => xext h13 h18 → 1 ≤ fr ∧ 14 ≤ lo ∧ xRv G YX5_statement (fr - 1) (lo - 14) [rv x0, rv x19, .int 1] h18 (fun h25 => xext h18 h25 → ((¬ x2 = (fR h25 x0 1304) → bX5_block_455 G fr lo x0 x4 60 (fR h25 x0 1281) h25 Q) ∧ (x2 = (fR h25 x0 1304) → bX5_block_455 G fr lo x0 x4 66 (fR h25 x0 1281) h25 Q))) (fun r h2 => Q (.threw r) h2)) (fun r h2 => Q (.threw r) h2))) ∧ (¬ x7 ≤ x5 → tg h6 (fR h6 x2 4101) = 8 ∧ tg h6 (fR h6 (fR h6 x2 4101) 1792) = 29 ∧ 1 ≤ fr ∧ 13 ≤ lo ∧ xRr G YJ2_get (fr - 1) (lo - 13) [rv (fR h6 (fR h6 x2 4101) 1792), .int x5] h6 (fun x36 h35 => xext h6 h35 → tg h35 x36 = 9 ∧ ((¬ (fI h35 x36 2048) = 3 → bX5_block_409 G fr lo x0 x1 x2 x4 x5 h35 Q) ∧ ((fI h35 x36 2048) = 3 → tg h35 (fR h35 x36 2059) = 17 ∧ (((fI h35 (fR h35 x36 2059) 4109) = 0 → bX5_block_409 G fr lo x0 x1 x2 x4 x5 h35 Q) ∧ (¬ (fI h35 (fR h35 x36 2059) 4109) = 0 → ((¬ (fI h35 (fR h35 x36 2059) 4103) = (-1) → bX5_block_409 G fr lo x0 x1 x2 x4 x5 h35 Q) ∧ ((fI h35 (fR h35 x36 2059) 4103) = (-1) → tg h35 x0 = 6 ∧ 1 ≤ fr ∧ 14 ≤ lo ∧ xRr G YX5_fault (fr - 1) (lo - 14) [rv x0, .int 10, .int (fI h35 (fR h35 x36 2059) 4098)] h35 (fun x47 h46 => xext h35 h46 → (∃ r49, x47 = r49 + 1 ∧ Q (.threw r49) h46)) (fun r h2 => Q (.threw r) h2)))))))) (fun r h2 => Q (.threw r) h2)))) (fun r h2 => Q (.threw r) h2)
set_option maxRecDepth 100000 in
theorem uX5_block_330 {G : xG} {fr lo : Nat} {x0 : Nat} {x1 : Nat} {x2 : Nat} {x4 : Nat} {x5 : Int32} {h : xH} {Q : Outcome → xH → Prop} (hq : bX5_block_330 G fr lo x0 x1 x2 x4 x5 h Q) : xP G YX5_block fr lo 330 [(0, rv x0), (1, rv x1), (2, rv x2), (4, rv x4), (5, .int x5)] [] h Q := by
  unfold bX5_block_330 at hq
  refine x_iload 4 dX5_block_330 rfl ?_
  refine x_aload_n 2 dX5_block_332 rfl ?_
  obtain ⟨g1, hq⟩ := hq
  refine x_getN (v := rv (fR h x2 4101)) gfX5_415 dX5_block_333 g1 rfl ?_
  obtain ⟨g2, hq⟩ := hq
  refine x_getN (v := rv (fR h (fR h x2 4101) 1792)) gfX5_115 dX5_block_336 g2 rfl ?_
  obtain ⟨g3, hq⟩ := hq
  obtain ⟨g4, g5, hq⟩ := hq
  refine x_callV (Yc := YJ2_size) (as := []) (st := [.int x5]) q2271 mvJ2_size g3 rfl dX5_block_339 (xle (xal1 (rv_cat _) xal0) (by decide)) (xfr g4) (xlo (xsw1 rfl xsw0) (by decide) g5) (xKi hq (fun x7 h6 hq e8 => ?_) (fun _ _ q _ => q))
  replace hq := hq e8
  refine x_icmp_ge (tgt := 415) dX5_block_342 (by decide) (fun c9 => ?_) (fun c9 => ?_)
  · replace hq := hq.1 c9
    refine x_aload_n 2 dX5_block_415 rfl ?_
    refine x_aload_n 0 dX5_block_416 rfl ?_
    obtain ⟨g10, hq⟩ := hq
    refine x_get (v := rv (fR h6 x0 1281)) fdX5_62 dX5_block_417 g10 rfl ?_
    obtain ⟨g11, hq⟩ := hq
    refine x_getN (v := .int (fI h6 (fR h6 x0 1281) 517)) gfX5_501 dX5_block_420 g11 rfl ?_
    have t12 : tg h6 x2 = 17 := e8.tg g1 (by decide)
    obtain ⟨h13, e14⟩ : ∃ y, y = sI h6 x2 4103 (fI h6 (fR h6 x0 1281) 517) := ⟨_, rfl⟩
    replace hq := hq h13 e14
    refine x_putNI gfX5_496 xty_I1 dX5_block_423 t12 (Or.inl (by rw [t12]; rfl)) xnI rfl e14 ?_
    refine x_aload_n 0 dX5_block_426 rfl ?_
    refine x_aload_n 1 dX5_block_427 rfl ?_
    refine x_iconst (v := 5) dX5_block_428 (by decide) ?_
    obtain ⟨g15, hq⟩ := hq
    obtain ⟨g16, g17, hq⟩ := hq
    refine x_callV (Yc := YX15_kid) (as := [.int 5]) (st := [rv x0]) q2129 mvX15_kid g15 rfl dX5_block_429 (xle (xal1 (rv_cat _) (xal1 rfl xal0)) (by decide)) (xfr g16) (xlo (xsw1 (rv_cat _) xsw0) (by decide) g17) (xKr hq (fun x19 h18 hq e20 => ?_) (fun _ _ q _ => q))
    replace hq := hq e20
    refine x_iconst (v := 1) dX5_block_432 (by decide) ?_
    have t21 : tg h13 x0 = 6 := by rw [e14]; exact g10
    have t22 : tg h18 x0 = 6 := e20.tg t21 (by decide)
    obtain ⟨g23, g24, hq⟩ := hq
    refine x_callV (Yc := YX5_statement) (as := [rv x19, .int 1]) (st := []) q2490 mvX5_statement t22 rfl dX5_block_433 (xle (xal1 (rv_cat _) (xal1 (rv_cat _) (xal1 rfl xal0))) (by decide)) (xfr g23) (xlo xsw0 (by decide) g24) (xKv hq (fun h25 hq e27 => ?_) (fun _ _ q _ => q))
    replace hq := hq e27
    refine x_aload_n 0 dX5_block_436 rfl ?_
    have t28 : tg h25 x0 = 6 := e27.tg t22 (by decide)
    refine x_get (v := rv (fR h25 x0 1281)) fdX5_62 dX5_block_437 t28 rfl ?_
    refine x_aload_n 2 dX5_block_440 rfl ?_
    refine x_aload_n 0 dX5_block_441 rfl ?_
    refine x_get (v := rv (fR h25 x0 1304)) fdX5_411 dX5_block_442 t28 rfl ?_
    refine x_acmp_ne (tgt := 453) dX5_block_445 (by decide) (fun c29 => ?_) (fun c29 => ?_)
    · replace hq := hq.1 c29
      refine x_bipush (v := 60) dX5_block_453 (by decide) ?_
      refine xP.pick (lv' := [(0, rv x0), (4, rv x4)]) [0, 3] rfl ?_
      exact uX5_block_455 hq
    · replace hq := hq.2 c29
      refine x_bipush (v := 66) dX5_block_448 (by decide) ?_
      refine x_goto (tgt := 455) dX5_block_450 (by decide) ?_
      refine xP.pick (lv' := [(0, rv x0), (4, rv x4)]) [0, 3] rfl ?_
      exact uX5_block_455 hq
  · replace hq := hq.2 c9
    refine x_aload_n 2 dX5_block_345 rfl ?_
    have t30 : tg h6 x2 = 17 := e8.tg g1 (by decide)
    refine x_getN (v := rv (fR h6 x2 4101)) gfX5_415 dX5_block_346 t30 rfl ?_
    obtain ⟨g31, hq⟩ := hq
    refine x_getN (v := rv (fR h6 (fR h6 x2 4101) 1792)) gfX5_115 dX5_block_349 g31 rfl ?_
    refine x_iload 4 dX5_block_352 rfl ?_
    obtain ⟨g32, hq⟩ := hq
    obtain ⟨g33, g34, hq⟩ := hq
    refine x_callV (Yc := YJ2_get) (as := [.int x5]) (st := []) q2304 mvJ2_get g32 rfl dX5_block_354 (xle (xal1 (rv_cat _) (xal1 rfl xal0)) (by decide)) (xfr g33) (xlo xsw0 (by decide) g34) (xKr hq (fun x36 h35 hq e37 => ?_) (fun _ _ q _ => q))
    replace hq := hq e37
    obtain ⟨g38, hq⟩ := hq
    refine x_cast (ci := 8) (by decide) rfl q902 g38 dX5_block_357 ?_
    refine x_astore (lv' := [(6, rv x36), (0, rv x0), (1, rv x1), (2, rv x2), (4, rv x4), (5, .int x5)]) dX5_block_360 (by decide) rfl ?_
    refine x_aload 0 dX5_block_362 rfl ?_
    refine x_getN (v := .int (fI h35 x36 2048)) gfX5_199 dX5_block_364 g38 rfl ?_
    refine x_iconst (v := 3) dX5_block_367 (by decide) ?_
    refine x_icmp_ne (tgt := 409) dX5_block_368 (by decide) (fun c39 => ?_) (fun c39 => ?_)
    · replace hq := hq.1 c39
      refine xP.pick (lv' := [(0, rv x0), (1, rv x1), (2, rv x2), (4, rv x4), (5, .int x5)]) [1, 2, 3, 4, 5] rfl ?_
      exact uX5_block_409 hq
    · replace hq := hq.2 c39
      refine x_aload 0 dX5_block_371 rfl ?_
      refine x_getN (v := rv (fR h35 x36 2059)) gfX5_492 dX5_block_373 g38 rfl ?_
      obtain ⟨g40, hq⟩ := hq
      refine x_getN (v := .int (fI h35 (fR h35 x36 2059) 4109)) gfX5_493 dX5_block_376 g40 rfl ?_
      refine x_if_eq (tgt := 409) dX5_block_379 (by decide) (fun c41 => ?_) (fun c41 => ?_)
      · replace hq := hq.1 c41
        refine xP.pick (lv' := [(0, rv x0), (1, rv x1), (2, rv x2), (4, rv x4), (5, .int x5)]) [1, 2, 3, 4, 5] rfl ?_
        exact uX5_block_409 hq
      · replace hq := hq.2 c41
        refine x_aload 0 dX5_block_382 rfl ?_
        refine x_getN (v := rv (fR h35 x36 2059)) gfX5_492 dX5_block_384 g38 rfl ?_
        refine x_getN (v := .int (fI h35 (fR h35 x36 2059) 4103)) gfX5_496 dX5_block_387 g40 rfl ?_
        refine x_iconst (v := (-1)) dX5_block_390 (by decide) ?_
        refine x_icmp_ne (tgt := 409) dX5_block_391 (by decide) (fun c42 => ?_) (fun c42 => ?_)
        · replace hq := hq.1 c42
          refine xP.pick (lv' := [(0, rv x0), (1, rv x1), (2, rv x2), (4, rv x4), (5, .int x5)]) [1, 2, 3, 4, 5] rfl ?_
          exact uX5_block_409 hq
        · replace hq := hq.2 c42
          refine x_aload_n 1 dX5_block_394 rfl ?_
          refine x_bipush (v := 10) dX5_block_395 (by decide) ?_
          refine x_aload 0 dX5_block_397 rfl ?_
          refine x_getN (v := rv (fR h35 x36 2059)) gfX5_492 dX5_block_399 g38 rfl ?_
          refine x_getN (v := .int (fI h35 (fR h35 x36 2059) 4098)) gfX5_499 dX5_block_402 g40 rfl ?_
          obtain ⟨g43, hq⟩ := hq
          obtain ⟨g44, g45, hq⟩ := hq
          refine x_callV (Yc := YX5_fault) (as := [.int 10, .int (fI h35 (fR h35 x36 2059) 4098)]) (st := []) q2087 mvX5_fault g43 rfl dX5_block_405 (xle (xal1 (rv_cat _) (xal1 rfl (xal1 rfl xal0))) (by decide)) (xfr g44) (xlo xsw0 (by decide) g45) (xKr hq (fun x47 h46 hq e48 => ?_) (fun _ _ q _ => q))
          replace hq := hq e48
          obtain ⟨r49, g50, hq⟩ := hq
          rw [g50]
          exact x_athrow dX5_block_408 hq
set_option maxRecDepth 100000 in
def bX5_block_305 (G : xG) (fr lo : Nat) (x0 : Nat) (x1 : Nat) (x2 : Nat) (x4 : Nat) (x5 : Nat) (h : xH) (Q : Outcome → xH → Prop) : Prop := ((x5 = 0 → lX5_block_330 G fr lo x0 x1 x2 x4 0 h Q) ∧ (¬ x5 = 0 → tg h x0 = 6 ∧ 1 ≤ fr ∧ 22 ≤ lo ∧ xRv G YX5_routine (fr - 1) (lo - 22) [rv x0, rv x5, rv x2] h (fun h5 => xext h h5 → tg h5 x5 = 16 ∧ lX5_block_305 G fr lo x0 x1 x2 x4 (fR h5 x5 3844) h5 Q) (fun r h2 => Q (.threw r) h2)))
set_option maxRecDepth 100000 in
theorem uX5_block_305 {G : xG} {fr lo : Nat} {x0 : Nat} {x1 : Nat} {x2 : Nat} {x4 : Nat} {x5 : Nat} {h : xH} {Q : Outcome → xH → Prop} (hq : bX5_block_305 G fr lo x0 x1 x2 x4 x5 h Q) : xP G YX5_block fr lo 305 [(0, rv x0), (1, rv x1), (2, rv x2), (4, rv x4), (5, rv x5)] [] h Q := by
  unfold bX5_block_305 at hq
  refine x_aload 4 dX5_block_305 rfl ?_
  refine x_ifnull (tgt := 327) dX5_block_307 (by decide) (fun c1 => ?_) (fun c1 => ?_)
  · replace hq := hq.1 c1
    refine x_iconst (v := 0) dX5_block_327 (by decide) ?_
    refine x_istore (lv' := [(5, .int 0), (0, rv x0), (1, rv x1), (2, rv x2), (4, rv x4)]) dX5_block_328 (by decide) (by first | rfl | (simp [rv_cat, Value.category]; done) | (simp [rv_cat, Value.category]; decide)) ?_
    refine xP.pick (lv' := [(0, rv x0), (1, rv x1), (2, rv x2), (4, rv x4), (5, .int 0)]) [1, 2, 3, 4, 0] rfl ?_
    exact hq
  · replace hq := hq.2 c1
    refine x_aload_n 0 dX5_block_310 rfl ?_
    refine x_aload 4 dX5_block_311 rfl ?_
    refine x_aload_n 2 dX5_block_313 rfl ?_
    obtain ⟨g2, hq⟩ := hq
    obtain ⟨g3, g4, hq⟩ := hq
    refine x_callV (Yc := YX5_routine) (as := [rv x5, rv x2]) (st := []) q2435 mvX5_routine g2 rfl dX5_block_314 (xle (xal1 (rv_cat _) (xal1 (rv_cat _) (xal1 (rv_cat _) xal0))) (by decide)) (xfr g3) (xlo xsw0 (by decide) g4) (xKv hq (fun h5 hq e7 => ?_) (fun _ _ q _ => q))
    replace hq := hq e7
    refine x_aload 4 dX5_block_317 rfl ?_
    obtain ⟨g8, hq⟩ := hq
    refine x_getN (v := rv (fR h5 x5 3844)) gfX5_307 dX5_block_319 g8 rfl ?_
    refine x_astore (lv' := [(5, rv (fR h5 x5 3844)), (0, rv x0), (1, rv x1), (2, rv x2), (4, rv x4)]) dX5_block_322 (by decide) (by first | rfl | (simp [rv_cat, Value.category]; done) | (simp [rv_cat, Value.category]; decide)) ?_
    refine x_goto (tgt := 305) dX5_block_324 (by decide) ?_
    refine xP.pick (lv' := [(0, rv x0), (1, rv x1), (2, rv x2), (4, rv x4), (5, rv (fR h5 x5 3844))]) [1, 2, 3, 4, 0] rfl ?_
    exact hq
set_option maxRecDepth 100000 in
def bX5_block_295 (G : xG) (fr lo : Nat) (x0 : Nat) (x1 : Nat) (x2 : Nat) (x4 : Nat) (h : xH) (Q : Outcome → xH → Prop) : Prop := tg h x1 = 16 ∧ 1 ≤ fr ∧ 15 ≤ lo ∧ xRr G YX15_kid (fr - 1) (lo - 15) [rv x1, .int 4] h (fun x5 h4 => xext h h4 → tg h4 x5 = 16 ∧ lX5_block_305 G fr lo x0 x1 x2 x4 (fR h4 x5 3842) h4 Q) (fun r h2 => Q (.threw r) h2)
set_option maxRecDepth 100000 in
theorem uX5_block_295 {G : xG} {fr lo : Nat} {x0 : Nat} {x1 : Nat} {x2 : Nat} {x4 : Nat} {h : xH} {Q : Outcome → xH → Prop} (hq : bX5_block_295 G fr lo x0 x1 x2 x4 h Q) : xP G YX5_block fr lo 295 [(0, rv x0), (1, rv x1), (2, rv x2), (4, rv x4)] [] h Q := by
  unfold bX5_block_295 at hq
  refine x_aload_n 1 dX5_block_295 rfl ?_
  refine x_iconst (v := 4) dX5_block_296 (by decide) ?_
  obtain ⟨g1, hq⟩ := hq
  obtain ⟨g2, g3, hq⟩ := hq
  refine x_callV (Yc := YX15_kid) (as := [.int 4]) (st := []) q2129 mvX15_kid g1 rfl dX5_block_297 (xle (xal1 (rv_cat _) (xal1 rfl xal0)) (by decide)) (xfr g2) (xlo xsw0 (by decide) g3) (xKr hq (fun x5 h4 hq e6 => ?_) (fun _ _ q _ => q))
  replace hq := hq e6
  obtain ⟨g7, hq⟩ := hq
  refine x_getN (v := rv (fR h4 x5 3842)) gfX5_251 dX5_block_300 g7 rfl ?_
  refine x_astore (lv' := [(5, rv (fR h4 x5 3842)), (0, rv x0), (1, rv x1), (2, rv x2), (4, rv x4)]) dX5_block_303 (by decide) (by first | rfl | (simp [rv_cat, Value.category]; done) | (simp [rv_cat, Value.category]; decide)) ?_
  refine xP.pick (lv' := [(0, rv x0), (1, rv x1), (2, rv x2), (4, rv x4), (5, rv (fR h4 x5 3842))]) [1, 2, 3, 4, 0] rfl ?_
  exact hq
set_option maxRecDepth 100000 in
def bX5_block_270 (G : xG) (fr lo : Nat) (x0 : Nat) (x1 : Nat) (x2 : Nat) (x4 : Nat) (x5 : Nat) (h : xH) (Q : Outcome → xH → Prop) : Prop := ((x5 = 0 → bX5_block_295 G fr lo x0 x1 x2 x4 h Q) ∧ (¬ x5 = 0 → tg h x2 = 17 ∧ tg h x0 = 6 ∧ 1 ≤ fr ∧ 15 ≤ lo ∧ xRv G YX5_outside (fr - 1) (lo - 15) [rv x0, rv x5, rv (fR h x2 4101)] h (fun h6 => xext h h6 → tg h6 x5 = 16 ∧ lX5_block_270 G fr lo x0 x1 x2 x4 (fR h6 x5 3844) h6 Q) (fun r h2 => Q (.threw r) h2)))
set_option maxRecDepth 100000 in
theorem uX5_block_270 {G : xG} {fr lo : Nat} {x0 : Nat} {x1 : Nat} {x2 : Nat} {x4 : Nat} {x5 : Nat} {h : xH} {Q : Outcome → xH → Prop} (hq : bX5_block_270 G fr lo x0 x1 x2 x4 x5 h Q) : xP G YX5_block fr lo 270 [(0, rv x0), (1, rv x1), (2, rv x2), (4, rv x4), (5, rv x5)] [] h Q := by
  unfold bX5_block_270 at hq
  refine x_aload 4 dX5_block_270 rfl ?_
  refine x_ifnull (tgt := 295) dX5_block_272 (by decide) (fun c1 => ?_) (fun c1 => ?_)
  · replace hq := hq.1 c1
    refine xP.pick (lv' := [(0, rv x0), (1, rv x1), (2, rv x2), (4, rv x4)]) [0, 1, 2, 3] rfl ?_
    exact uX5_block_295 hq
  · replace hq := hq.2 c1
    refine x_aload_n 0 dX5_block_275 rfl ?_
    refine x_aload 4 dX5_block_276 rfl ?_
    refine x_aload_n 2 dX5_block_278 rfl ?_
    obtain ⟨g2, hq⟩ := hq
    refine x_getN (v := rv (fR h x2 4101)) gfX5_415 dX5_block_279 g2 rfl ?_
    obtain ⟨g3, hq⟩ := hq
    obtain ⟨g4, g5, hq⟩ := hq
    refine x_callV (Yc := YX5_outside) (as := [rv x5, rv (fR h x2 4101)]) (st := []) q2431 mvX5_outside g3 rfl dX5_block_282 (xle (xal1 (rv_cat _) (xal1 (rv_cat _) (xal1 (rv_cat _) xal0))) (by decide)) (xfr g4) (xlo xsw0 (by decide) g5) (xKv hq (fun h6 hq e8 => ?_) (fun _ _ q _ => q))
    replace hq := hq e8
    refine x_aload 4 dX5_block_285 rfl ?_
    obtain ⟨g9, hq⟩ := hq
    refine x_getN (v := rv (fR h6 x5 3844)) gfX5_307 dX5_block_287 g9 rfl ?_
    refine x_astore (lv' := [(5, rv (fR h6 x5 3844)), (0, rv x0), (1, rv x1), (2, rv x2), (4, rv x4)]) dX5_block_290 (by decide) (by first | rfl | (simp [rv_cat, Value.category]; done) | (simp [rv_cat, Value.category]; decide)) ?_
    refine x_goto (tgt := 270) dX5_block_292 (by decide) ?_
    refine xP.pick (lv' := [(0, rv x0), (1, rv x1), (2, rv x2), (4, rv x4), (5, rv (fR h6 x5 3844))]) [1, 2, 3, 4, 0] rfl ?_
    exact hq
set_option maxRecDepth 100000 in
def bX5_block_238 (G : xG) (fr lo : Nat) (x0 : Nat) (x1 : Nat) (x2 : Nat) (x3 : Nat) (x4 : Nat) (x5 : Nat) (h : xH) (Q : Outcome → xH → Prop) : Prop := ((x5 = 0 → ((x3 = 0 → bX5_block_295 G fr lo x0 x1 x2 x4 h Q) ∧ (¬ x3 = 0 → tg h x3 = 16 ∧ lX5_block_270 G fr lo x0 x1 x2 x4 (fR h x3 3842) h Q))) ∧ (¬ x5 = 0 → tg h x0 = 6 ∧ 1 ≤ fr ∧ 17 ≤ lo ∧ xRv G YX5_variables (fr - 1) (lo - 17) [rv x0, rv x5, rv x2] h (fun h7 => xext h h7 → tg h7 x5 = 16 ∧ lX5_block_238 G fr lo x0 x1 x2 x3 x4 (fR h7 x5 3844) h7 Q) (fun r h2 => Q (.threw r) h2)))
set_option maxRecDepth 100000 in
theorem uX5_block_238 {G : xG} {fr lo : Nat} {x0 : Nat} {x1 : Nat} {x2 : Nat} {x3 : Nat} {x4 : Nat} {x5 : Nat} {h : xH} {Q : Outcome → xH → Prop} (hq : bX5_block_238 G fr lo x0 x1 x2 x3 x4 x5 h Q) : xP G YX5_block fr lo 238 [(0, rv x0), (1, rv x1), (2, rv x2), (3, rv x3), (4, rv x4), (5, rv x5)] [] h Q := by
  unfold bX5_block_238 at hq
  refine x_aload 5 dX5_block_238 rfl ?_
  refine x_ifnull (tgt := 260) dX5_block_240 (by decide) (fun c1 => ?_) (fun c1 => ?_)
  · replace hq := hq.1 c1
    refine x_aload_n 3 dX5_block_260 rfl ?_
    refine x_ifnull (tgt := 295) dX5_block_261 (by decide) (fun c2 => ?_) (fun c2 => ?_)
    · replace hq := hq.1 c2
      refine xP.pick (lv' := [(0, rv x0), (1, rv x1), (2, rv x2), (4, rv x4)]) [0, 1, 2, 4] rfl ?_
      exact uX5_block_295 hq
    · replace hq := hq.2 c2
      refine x_aload_n 3 dX5_block_264 rfl ?_
      obtain ⟨g3, hq⟩ := hq
      refine x_getN (v := rv (fR h x3 3842)) gfX5_251 dX5_block_265 g3 rfl ?_
      refine x_astore (lv' := [(5, rv (fR h x3 3842)), (0, rv x0), (1, rv x1), (2, rv x2), (3, rv x3), (4, rv x4)]) dX5_block_268 (by decide) (by first | rfl | (simp [rv_cat, Value.category]; done) | (simp [rv_cat, Value.category]; decide)) ?_
      refine xP.pick (lv' := [(0, rv x0), (1, rv x1), (2, rv x2), (4, rv x4), (5, rv (fR h x3 3842))]) [1, 2, 3, 5, 0] rfl ?_
      exact hq
  · replace hq := hq.2 c1
    refine x_aload_n 0 dX5_block_243 rfl ?_
    refine x_aload 5 dX5_block_244 rfl ?_
    refine x_aload_n 2 dX5_block_246 rfl ?_
    obtain ⟨g4, hq⟩ := hq
    obtain ⟨g5, g6, hq⟩ := hq
    refine x_callV (Yc := YX5_variables) (as := [rv x5, rv x2]) (st := []) q2427 mvX5_variables g4 rfl dX5_block_247 (xle (xal1 (rv_cat _) (xal1 (rv_cat _) (xal1 (rv_cat _) xal0))) (by decide)) (xfr g5) (xlo xsw0 (by decide) g6) (xKv hq (fun h7 hq e9 => ?_) (fun _ _ q _ => q))
    replace hq := hq e9
    refine x_aload 5 dX5_block_250 rfl ?_
    obtain ⟨g10, hq⟩ := hq
    refine x_getN (v := rv (fR h7 x5 3844)) gfX5_307 dX5_block_252 g10 rfl ?_
    refine x_astore (lv' := [(5, rv (fR h7 x5 3844)), (0, rv x0), (1, rv x1), (2, rv x2), (3, rv x3), (4, rv x4)]) dX5_block_255 (by decide) (by first | rfl | (simp [rv_cat, Value.category]; done) | (simp [rv_cat, Value.category]; decide)) ?_
    refine x_goto (tgt := 238) dX5_block_257 (by decide) ?_
    refine xP.pick (lv' := [(0, rv x0), (1, rv x1), (2, rv x2), (3, rv x3), (4, rv x4), (5, rv (fR h7 x5 3844))]) [1, 2, 3, 4, 5, 0] rfl ?_
    exact hq
set_option maxRecDepth 100000 in
def bX5_block_148 (G : xG) (fr lo : Nat) (x0 : Nat) (x1 : Nat) (x2 : Nat) (x3 : Nat) (x4 : Nat) (x5 : Nat) (h : xH) (Q : Outcome → xH → Prop) : Prop := ((x5 = 0 → tg h x1 = 16 ∧ 1 ≤ fr ∧ 16 ≤ lo ∧ xRr G YX15_kid (fr - 1) (lo - 16) [rv x1, .int 2] h (fun x6 h5 => xext h h5 → tg h5 x2 = 17 ∧ tg h5 x0 = 6 ∧ 1 ≤ fr ∧ 19 ≤ lo ∧ xRv G YX5_types (fr - 1) (lo - 19) [rv x0, rv x6, rv (fR h5 x2 4101)] h5 (fun h12 => xext h5 h12 → 1 ≤ fr ∧ 15 ≤ lo ∧ xRr G YX15_kid (fr - 1) (lo - 15) [rv x1, .int 3] h12 (fun x20 h19 => xext h12 h19 → tg h19 x20 = 16 ∧ lX5_block_238 G fr lo x0 x1 x2 x3 x4 (fR h19 x20 3842) h19 Q) (fun r h2 => Q (.threw r) h2)) (fun r h2 => Q (.threw r) h2)) (fun r h2 => Q (.threw r) h2)) ∧ (¬ x5 = 0 → tg h x5 = 16 ∧ tg h x0 = 6 ∧ 1 ≤ fr ∧ 15 ≤ lo ∧ xRv G YX5_constant (fr - 1) (lo - 15) [rv x0, rv (fR h x5 3842)] h (fun h27 => xext h h27 → 1 ≤ fr ∧ 13 ≤ lo ∧ xRr G YX15_text (fr - 1) (lo - 13) [rv x5] h27 (fun x34 h33 => xext h27 h33 → 1 ≤ fr ∧ 16 ≤ lo ∧ xRr G YX5_valueItem (fr - 1) (lo - 16) [rv x0, rv x34, rv (fR h33 x0 1296), .int (fI h33 x0 1297)] h33 (fun x41 h40 => xext h33 h40 → tg h40 x41 = 9 ∧ (∀ h45 : xH, h45 = sD h40 x41 2055 (fD h40 x0 1298) → tg h45 x2 = 17 ∧ 1 ≤ fr ∧ 15 ≤ lo ∧ xRi G YX15_place (fr - 1) (lo - 15) [rv x5] h45 (fun x54 h53 => xext h45 h53 → 1 ≤ fr ∧ 15 ≤ lo ∧ xRv G YX5_define (fr - 1) (lo - 15) [rv x0, rv (fR h45 x2 4101), rv x41, .int x54] h53 (fun h60 => xext h53 h60 → lX5_block_148 G fr lo x0 x1 x2 x3 x4 (fR h60 x5 3844) h60 Q) (fun r h2 => Q (.threw r) h2)) (fun r h2 => Q (.threw r) h2))) (fun r h2 => Q (.threw r) h2)) (fun r h2 => Q (.threw r) h2)) (fun r h2 => Q (.threw r) h2)))
set_option maxRecDepth 100000 in
theorem uX5_block_148 {G : xG} {fr lo : Nat} {x0 : Nat} {x1 : Nat} {x2 : Nat} {x3 : Nat} {x4 : Nat} {x5 : Nat} {h : xH} {Q : Outcome → xH → Prop} (hq : bX5_block_148 G fr lo x0 x1 x2 x3 x4 x5 h Q) : xP G YX5_block fr lo 148 [(0, rv x0), (1, rv x1), (2, rv x2), (3, rv x3), (4, rv x4), (5, rv x5)] [] h Q := by
  unfold bX5_block_148 at hq
  refine x_aload 5 dX5_block_148 rfl ?_
  refine x_ifnull (tgt := 215) dX5_block_150 (by decide) (fun c1 => ?_) (fun c1 => ?_)
  · replace hq := hq.1 c1
    refine x_aload_n 0 dX5_block_215 rfl ?_
    refine x_aload_n 1 dX5_block_216 rfl ?_
    refine x_iconst (v := 2) dX5_block_217 (by decide) ?_
    obtain ⟨g2, hq⟩ := hq
    obtain ⟨g3, g4, hq⟩ := hq
    refine x_callV (Yc := YX15_kid) (as := [.int 2]) (st := [rv x0]) q2129 mvX15_kid g2 rfl dX5_block_218 (xle (xal1 (rv_cat _) (xal1 rfl xal0)) (by decide)) (xfr g3) (xlo (xsw1 (rv_cat _) xsw0) (by decide) g4) (xKr hq (fun x6 h5 hq e7 => ?_) (fun _ _ q _ => q))
    replace hq := hq e7
    refine x_aload_n 2 dX5_block_221 rfl ?_
    obtain ⟨g8, hq⟩ := hq
    refine x_getN (v := rv (fR h5 x2 4101)) gfX5_415 dX5_block_222 g8 rfl ?_
    obtain ⟨g9, hq⟩ := hq
    obtain ⟨g10, g11, hq⟩ := hq
    refine x_callV (Yc := YX5_types) (as := [rv x6, rv (fR h5 x2 4101)]) (st := []) q2267 mvX5_types g9 rfl dX5_block_225 (xle (xal1 (rv_cat _) (xal1 (rv_cat _) (xal1 (rv_cat _) xal0))) (by decide)) (xfr g10) (xlo xsw0 (by decide) g11) (xKv hq (fun h12 hq e14 => ?_) (fun _ _ q _ => q))
    replace hq := hq e14
    refine x_aload_n 1 dX5_block_228 rfl ?_
    refine x_iconst (v := 3) dX5_block_229 (by decide) ?_
    have t15 : tg h5 x1 = 16 := e7.tg g2 (by decide)
    have t16 : tg h12 x1 = 16 := e14.tg t15 (by decide)
    obtain ⟨g17, g18, hq⟩ := hq
    refine x_callV (Yc := YX15_kid) (as := [.int 3]) (st := []) q2129 mvX15_kid t16 rfl dX5_block_230 (xle (xal1 (rv_cat _) (xal1 rfl xal0)) (by decide)) (xfr g17) (xlo xsw0 (by decide) g18) (xKr hq (fun x20 h19 hq e21 => ?_) (fun _ _ q _ => q))
    replace hq := hq e21
    obtain ⟨g22, hq⟩ := hq
    refine x_getN (v := rv (fR h19 x20 3842)) gfX5_251 dX5_block_233 g22 rfl ?_
    refine x_astore (lv' := [(5, rv (fR h19 x20 3842)), (0, rv x0), (1, rv x1), (2, rv x2), (3, rv x3), (4, rv x4)]) dX5_block_236 (by decide) (by first | rfl | (simp [rv_cat, Value.category]; done) | (simp [rv_cat, Value.category]; decide)) ?_
    refine xP.pick (lv' := [(0, rv x0), (1, rv x1), (2, rv x2), (3, rv x3), (4, rv x4), (5, rv (fR h19 x20 3842))]) [1, 2, 3, 4, 5, 0] rfl ?_
    exact hq
  · replace hq := hq.2 c1
    refine x_aload_n 0 dX5_block_153 rfl ?_
    refine x_aload 5 dX5_block_154 rfl ?_
    obtain ⟨g23, hq⟩ := hq
    refine x_getN (v := rv (fR h x5 3842)) gfX5_251 dX5_block_156 g23 rfl ?_
    obtain ⟨g24, hq⟩ := hq
    obtain ⟨g25, g26, hq⟩ := hq
    refine x_callV (Yc := YX5_constant) (as := [rv (fR h x5 3842)]) (st := []) q2229 mvX5_constant g24 rfl dX5_block_159 (xle (xal1 (rv_cat _) (xal1 (rv_cat _) xal0)) (by decide)) (xfr g25) (xlo xsw0 (by decide) g26) (xKv hq (fun h27 hq e29 => ?_) (fun _ _ q _ => q))
    replace hq := hq e29
    refine x_aload_n 0 dX5_block_162 rfl ?_
    refine x_aload 5 dX5_block_163 rfl ?_
    have t30 : tg h27 x5 = 16 := e29.tg g23 (by decide)
    obtain ⟨g31, g32, hq⟩ := hq
    refine x_callV (Yc := YX15_text) (as := []) (st := [rv x0]) q2009 mvX15_text t30 rfl dX5_block_165 (xle (xal1 (rv_cat _) xal0) (by decide)) (xfr g31) (xlo (xsw1 (rv_cat _) xsw0) (by decide) g32) (xKr hq (fun x34 h33 hq e35 => ?_) (fun _ _ q _ => q))
    replace hq := hq e35
    refine x_aload_n 0 dX5_block_168 rfl ?_
    have t36 : tg h27 x0 = 6 := e29.tg g24 (by decide)
    have t37 : tg h33 x0 = 6 := e35.tg t36 (by decide)
    refine x_get (v := rv (fR h33 x0 1296)) fdX5_216 dX5_block_169 t37 rfl ?_
    refine x_aload_n 0 dX5_block_172 rfl ?_
    refine x_get (v := .int (fI h33 x0 1297)) fdX5_222 dX5_block_173 t37 rfl ?_
    obtain ⟨g38, g39, hq⟩ := hq
    refine x_callV (Yc := YX5_valueItem) (as := [rv x34, rv (fR h33 x0 1296), .int (fI h33 x0 1297)]) (st := []) q1099 mvX5_valueItem t37 rfl dX5_block_176 (xle (xal1 (rv_cat _) (xal1 (rv_cat _) (xal1 (rv_cat _) (xal1 rfl xal0)))) (by decide)) (xfr g38) (xlo xsw0 (by decide) g39) (xKr hq (fun x41 h40 hq e42 => ?_) (fun _ _ q _ => q))
    replace hq := hq e42
    refine x_astore (lv' := [(6, rv x41), (0, rv x0), (1, rv x1), (2, rv x2), (3, rv x3), (4, rv x4), (5, rv x5)]) dX5_block_179 (by decide) (by first | rfl | (simp [rv_cat, Value.category]; done) | (simp [rv_cat, Value.category]; decide)) ?_
    refine x_aload 0 dX5_block_181 rfl ?_
    refine x_aload_n 1 dX5_block_183 rfl ?_
    have t43 : tg h40 x0 = 6 := e42.tg t37 (by decide)
    refine x_get (v := .double (fD h40 x0 1298)) fdX5_231 dX5_block_184 t43 rfl ?_
    obtain ⟨g44, hq⟩ := hq
    obtain ⟨h45, e46⟩ : ∃ y, y = sD h40 x41 2055 (fD h40 x0 1298) := ⟨_, rfl⟩
    replace hq := hq h45 e46
    refine x_putND gfX5_250 dX5_block_187 g44 (Or.inl (by rw [g44]; rfl)) rfl e46 ?_
    refine x_aload_n 1 dX5_block_190 rfl ?_
    refine x_aload_n 3 dX5_block_191 rfl ?_
    obtain ⟨g47, hq⟩ := hq
    refine x_getN (v := rv (fR h45 x2 4101)) gfX5_415 dX5_block_192 g47 rfl ?_
    refine x_aload 0 dX5_block_195 rfl ?_
    refine x_aload 6 dX5_block_197 rfl ?_
    have t48 : tg h33 x5 = 16 := e35.tg t30 (by decide)
    have t49 : tg h40 x5 = 16 := e42.tg t48 (by decide)
    have t50 : tg h45 x5 = 16 := by rw [e46]; exact t49
    obtain ⟨g51, g52, hq⟩ := hq
    refine x_callV (Yc := YX15_place) (as := []) (st := [rv x41, rv (fR h45 x2 4101), rv x0]) q2013 mvX15_place t50 rfl dX5_block_199 (xle (xal1 (rv_cat _) xal0) (by decide)) (xfr g51) (xlo (xsw1 (rv_cat _) (xsw1 (rv_cat _) (xsw1 (rv_cat _) xsw0))) (by decide) g52) (xKi hq (fun x54 h53 hq e55 => ?_) (fun _ _ q _ => q))
    replace hq := hq e55
    have t56 : tg h45 x0 = 6 := by rw [e46]; exact t43
    have t57 : tg h53 x0 = 6 := e55.tg t56 (by decide)
    obtain ⟨g58, g59, hq⟩ := hq
    refine x_callV (Yc := YX5_define) (as := [rv (fR h45 x2 4101), rv x41, .int x54]) (st := []) q2103 mvX5_define t57 rfl dX5_block_202 (xle (xal1 (rv_cat _) (xal1 (rv_cat _) (xal1 (rv_cat _) (xal1 rfl xal0)))) (by decide)) (xfr g58) (xlo xsw0 (by decide) g59) (xKv hq (fun h60 hq e62 => ?_) (fun _ _ q _ => q))
    replace hq := hq e62
    refine x_aload 6 dX5_block_205 rfl ?_
    have t63 : tg h53 x5 = 16 := e55.tg t50 (by decide)
    have t64 : tg h60 x5 = 16 := e62.tg t63 (by decide)
    refine x_getN (v := rv (fR h60 x5 3844)) gfX5_307 dX5_block_207 t64 rfl ?_
    refine x_astore (lv' := [(5, rv (fR h60 x5 3844)), (6, rv x41), (0, rv x0), (1, rv x1), (2, rv x2), (3, rv x3), (4, rv x4)]) dX5_block_210 (by decide) (by first | rfl | (simp [rv_cat, Value.category]; done) | (simp [rv_cat, Value.category]; decide)) ?_
    refine x_goto (tgt := 148) dX5_block_212 (by decide) ?_
    refine xP.pick (lv' := [(0, rv x0), (1, rv x1), (2, rv x2), (3, rv x3), (4, rv x4), (5, rv (fR h60 x5 3844))]) [2, 3, 4, 5, 6, 0] rfl ?_
    exact hq
set_option maxRecDepth 100000 in
def bX5_block_39 (G : xG) (fr lo : Nat) (x0 : Nat) (x1 : Nat) (x2 : Nat) (x3 : Nat) (x4 : Nat) (x5 : Nat) (h : xH) (Q : Outcome → xH → Prop) : Prop := ((x5 = 0 → tg h x1 = 16 ∧ 1 ≤ fr ∧ 15 ≤ lo ∧ xRr G YX15_kid (fr - 1) (lo - 15) [rv x1, .int 1] h (fun x6 h5 => xext h h5 → tg h5 x6 = 16 ∧ lX5_block_148 G fr lo x0 x1 x2 x3 x4 (fR h5 x6 3842) h5 Q) (fun r h2 => Q (.threw r) h2)) ∧ (¬ x5 = 0 → tg h x5 = 16 ∧ tg h (fR h x5 3841) = 15 ∧ (((fI h (fR h x5 3841) 3587) ≤ 9999 → tg h x4 = 18 ∧ 1 ≤ fr ∧ 14 ≤ lo ∧ xRr G YX17_label (fr - 1) (lo - 14) [rv x4, .int (fI h (fR h x5 3841) 3587)] h (fun x16 h15 => xext h h15 → ((x16 = 0 → nx h15 + 1 ≤ xGN G ∧ us h15 + 5 ≤ xGU G ∧ (∀ (a22 : Nat) (h23 : xH), a22 = nx h15 + 1 → h23 = nO h15 19 5 → xfresh h15 a22 → tg h23 (fR h23 x5 3841) = 15 ∧ tg h23 x0 = 6 ∧ tg h23 (fR h23 x0 1281) = 3 ∧ 1 ≤ fr ∧ 16 ≤ lo ∧ xRi G YX2_label (fr - 1) (lo - 16) [rv (fR h23 x0 1281)] h23 (fun x36 h35 => xext h23 h35 → 1 ≤ fr ∧ 16 ≤ lo ∧ xRv G YX18_init (fr - 1) (lo - 16) [rv a22, .int (fI h23 (fR h23 x5 3841) 3587), .int x36] h35 (fun h41 => xext h35 h41 → tg h41 (fR h15 x4 4355) = 29 ∧ 1 ≤ fr ∧ 13 ≤ lo ∧ xRi G YJ2_add (fr - 1) (lo - 13) [rv (fR h15 x4 4355), rv a22] h41 (fun x48 h47 => xext h41 h47 → lX5_block_39 G fr lo x0 x1 x2 x3 x4 (fR h47 x5 3844) h47 Q) (fun r h2 => Q (.threw r) h2)) (fun r h2 => Q (.threw r) h2)) (fun r h2 => Q (.threw r) h2))) ∧ (¬ x16 = 0 → 1 ≤ fr ∧ 14 ≤ lo ∧ xRi G YX15_place (fr - 1) (lo - 14) [rv x5] h15 (fun x57 h56 => xext h15 h56 → tg h56 x0 = 6 ∧ 1 ≤ fr ∧ 14 ≤ lo ∧ xRr G YX5_fault (fr - 1) (lo - 14) [rv x0, .int 5, .int x57] h56 (fun x63 h62 => xext h56 h62 → (∃ r65, x63 = r65 + 1 ∧ Q (.threw r65) h62)) (fun r h2 => Q (.threw r) h2)) (fun r h2 => Q (.threw r) h2)))) (fun r h2 => Q (.threw r) h2)) ∧ (¬ (fI h (fR h x5 3841) 3587) ≤ 9999 → 1 ≤ fr ∧ 14 ≤ lo ∧ xRi G YX15_place (fr - 1) (lo - 14) [rv x5] h (fun x70 h69 => xext h h69 → tg h69 x0 = 6 ∧ 1 ≤ fr ∧ 14 ≤ lo ∧ xRr G YX5_fault (fr - 1) (lo - 14) [rv x0, .int 12, .int x70] h69 (fun x76 h75 => xext h69 h75 → (∃ r78, x76 = r78 + 1 ∧ Q (.threw r78) h75)) (fun r h2 => Q (.threw r) h2)) (fun r h2 => Q (.threw r) h2)))))
set_option maxRecDepth 100000 in
theorem uX5_block_39 {G : xG} {fr lo : Nat} {x0 : Nat} {x1 : Nat} {x2 : Nat} {x3 : Nat} {x4 : Nat} {x5 : Nat} {h : xH} {Q : Outcome → xH → Prop} (hq : bX5_block_39 G fr lo x0 x1 x2 x3 x4 x5 h Q) : xP G YX5_block fr lo 39 [(0, rv x0), (1, rv x1), (2, rv x2), (3, rv x3), (4, rv x4), (5, rv x5)] [] h Q := by
  unfold bX5_block_39 at hq
  refine x_aload 5 dX5_block_39 rfl ?_
  refine x_ifnull (tgt := 138) dX5_block_41 (by decide) (fun c1 => ?_) (fun c1 => ?_)
  · replace hq := hq.1 c1
    refine x_aload_n 1 dX5_block_138 rfl ?_
    refine x_iconst (v := 1) dX5_block_139 (by decide) ?_
    obtain ⟨g2, hq⟩ := hq
    obtain ⟨g3, g4, hq⟩ := hq
    refine x_callV (Yc := YX15_kid) (as := [.int 1]) (st := []) q2129 mvX15_kid g2 rfl dX5_block_140 (xle (xal1 (rv_cat _) (xal1 rfl xal0)) (by decide)) (xfr g3) (xlo xsw0 (by decide) g4) (xKr hq (fun x6 h5 hq e7 => ?_) (fun _ _ q _ => q))
    replace hq := hq e7
    obtain ⟨g8, hq⟩ := hq
    refine x_getN (v := rv (fR h5 x6 3842)) gfX5_251 dX5_block_143 g8 rfl ?_
    refine x_astore (lv' := [(5, rv (fR h5 x6 3842)), (0, rv x0), (1, rv x1), (2, rv x2), (3, rv x3), (4, rv x4)]) dX5_block_146 (by decide) (by first | rfl | (simp [rv_cat, Value.category]; done) | (simp [rv_cat, Value.category]; decide)) ?_
    refine xP.pick (lv' := [(0, rv x0), (1, rv x1), (2, rv x2), (3, rv x3), (4, rv x4), (5, rv (fR h5 x6 3842))]) [1, 2, 3, 4, 5, 0] rfl ?_
    exact hq
  · replace hq := hq.2 c1
    refine x_aload 5 dX5_block_44 rfl ?_
    obtain ⟨g9, hq⟩ := hq
    refine x_getN (v := rv (fR h x5 3841)) gfX5_202 dX5_block_46 g9 rfl ?_
    obtain ⟨g10, hq⟩ := hq
    refine x_getN (v := .int (fI h (fR h x5 3841) 3587)) gfX5_219 dX5_block_49 g10 rfl ?_
    refine x_sipush (v := 9999) dX5_block_52 (by decide) ?_
    refine x_icmp_le (tgt := 70) dX5_block_55 (by decide) (fun c11 => ?_) (fun c11 => ?_)
    · replace hq := hq.1 c11
      refine x_aload 4 dX5_block_70 rfl ?_
      refine x_aload 5 dX5_block_72 rfl ?_
      refine x_getN (v := rv (fR h x5 3841)) gfX5_202 dX5_block_74 g9 rfl ?_
      refine x_getN (v := .int (fI h (fR h x5 3841) 3587)) gfX5_219 dX5_block_77 g10 rfl ?_
      obtain ⟨g12, hq⟩ := hq
      obtain ⟨g13, g14, hq⟩ := hq
      refine x_callV (Yc := YX17_label) (as := [.int (fI h (fR h x5 3841) 3587)]) (st := []) q2189 mvX17_label g12 rfl dX5_block_80 (xle (xal1 (rv_cat _) (xal1 rfl xal0)) (by decide)) (xfr g13) (xlo xsw0 (by decide) g14) (xKr hq (fun x16 h15 hq e17 => ?_) (fun _ _ q _ => q))
      replace hq := hq e17
      refine x_ifnull (tgt := 97) dX5_block_83 (by decide) (fun c18 => ?_) (fun c18 => ?_)
      · replace hq := hq.1 c18
        refine x_aload 4 dX5_block_97 rfl ?_
        have t19 : tg h15 x4 = 18 := e17.tg g12 (by decide)
        refine x_getN (v := rv (fR h15 x4 4355)) gfX5_468 dX5_block_99 t19 rfl ?_
        obtain ⟨g20, g21, hq⟩ := hq
        obtain ⟨a22, e24⟩ : ∃ y, y = nx h15 + 1 := ⟨_, rfl⟩
        obtain ⟨h23, e25⟩ : ∃ y, y = nO h15 19 5 := ⟨_, rfl⟩
        refine x_new' cdX5_471 dX5_block_102 g20 g21 e24 e25 (fun f26 => ?_)
        replace hq := hq a22 h23 e24 e25 f26
        have t27 : tg h23 a22 = 19 := by rw [e25, e24]; exact tg_nO
        refine x_dup dX5_block_105 (rv_cat _) ?_
        refine x_aload 5 dX5_block_106 rfl ?_
        have t28 : tg h15 x5 = 16 := e17.tg g9 (by decide)
        have t29 : tg h23 x5 = 16 := by rw [e25]; exact tg_nO_ne e24 f26 t28 (by decide)
        refine x_getN (v := rv (fR h23 x5 3841)) gfX5_202 dX5_block_108 t29 rfl ?_
        obtain ⟨g30, hq⟩ := hq
        refine x_getN (v := .int (fI h23 (fR h23 x5 3841) 3587)) gfX5_219 dX5_block_111 g30 rfl ?_
        refine x_aload_n 0 dX5_block_114 rfl ?_
        obtain ⟨g31, hq⟩ := hq
        refine x_get (v := rv (fR h23 x0 1281)) fdX5_62 dX5_block_115 g31 rfl ?_
        obtain ⟨g32, hq⟩ := hq
        obtain ⟨g33, g34, hq⟩ := hq
        refine x_callV (Yc := YX2_label) (as := []) (st := [.int (fI h23 (fR h23 x5 3841) 3587), rv a22, rv a22, rv (fR h15 x4 4355)]) q2198 mvX2_label g32 rfl dX5_block_118 (xle (xal1 (rv_cat _) xal0) (by decide)) (xfr g33) (xlo (xsw1 rfl (xsw1 (rv_cat _) (xsw1 (rv_cat _) (xsw1 (rv_cat _) xsw0)))) (by decide) g34) (xKi hq (fun x36 h35 hq e37 => ?_) (fun _ _ q _ => q))
        replace hq := hq e37
        have t38 : tg h35 a22 = 19 := e37.tg t27 (by decide)
        obtain ⟨g39, g40, hq⟩ := hq
        refine x_callI (Yc := YX18_init) (as := [.int (fI h23 (fR h23 x5 3841) 3587), .int x36]) (st := [rv a22, rv (fR h15 x4 4355)]) q2205 miX18_init (by rw [t38]; decide) rfl dX5_block_121 (xle (xal1 (rv_cat _) (xal1 rfl (xal1 rfl xal0))) (by decide)) (xfr g39) (xlo (xsw1 (rv_cat _) (xsw1 (rv_cat _) xsw0)) (by decide) g40) (xKv hq (fun h41 hq e43 => ?_) (fun _ _ q _ => q))
        replace hq := hq e43
        obtain ⟨g44, hq⟩ := hq
        obtain ⟨g45, g46, hq⟩ := hq
        refine x_callV (Yc := YJ2_add) (as := [rv a22]) (st := []) q1009 mvJ2_add g44 rfl dX5_block_124 (xle (xal1 (rv_cat _) (xal1 (rv_cat _) xal0)) (by decide)) (xfr g45) (xlo xsw0 (by decide) g46) (xKi hq (fun x48 h47 hq e49 => ?_) (fun _ _ q _ => q))
        replace hq := hq e49
        refine x_pop dX5_block_127 rfl ?_
        refine x_aload 5 dX5_block_128 rfl ?_
        have t50 : tg h35 x5 = 16 := e37.tg t29 (by decide)
        have t51 : tg h41 x5 = 16 := e43.tg t50 (by decide)
        have t52 : tg h47 x5 = 16 := e49.tg t51 (by decide)
        refine x_getN (v := rv (fR h47 x5 3844)) gfX5_307 dX5_block_130 t52 rfl ?_
        refine x_astore (lv' := [(5, rv (fR h47 x5 3844)), (0, rv x0), (1, rv x1), (2, rv x2), (3, rv x3), (4, rv x4)]) dX5_block_133 (by decide) (by first | rfl | (simp [rv_cat, Value.category]; done) | (simp [rv_cat, Value.category]; decide)) ?_
        refine x_goto (tgt := 39) dX5_block_135 (by decide) ?_
        refine xP.pick (lv' := [(0, rv x0), (1, rv x1), (2, rv x2), (3, rv x3), (4, rv x4), (5, rv (fR h47 x5 3844))]) [1, 2, 3, 4, 5, 0] rfl ?_
        exact hq
      · replace hq := hq.2 c18
        refine x_aload_n 0 dX5_block_86 rfl ?_
        refine x_iconst (v := 5) dX5_block_87 (by decide) ?_
        refine x_aload 5 dX5_block_88 rfl ?_
        have t53 : tg h15 x5 = 16 := e17.tg g9 (by decide)
        obtain ⟨g54, g55, hq⟩ := hq
        refine x_callV (Yc := YX15_place) (as := []) (st := [.int 5, rv x0]) q2013 mvX15_place t53 rfl dX5_block_90 (xle (xal1 (rv_cat _) xal0) (by decide)) (xfr g54) (xlo (xsw1 rfl (xsw1 (rv_cat _) xsw0)) (by decide) g55) (xKi hq (fun x57 h56 hq e58 => ?_) (fun _ _ q _ => q))
        replace hq := hq e58
        obtain ⟨g59, hq⟩ := hq
        obtain ⟨g60, g61, hq⟩ := hq
        refine x_callV (Yc := YX5_fault) (as := [.int 5, .int x57]) (st := []) q2087 mvX5_fault g59 rfl dX5_block_93 (xle (xal1 (rv_cat _) (xal1 rfl (xal1 rfl xal0))) (by decide)) (xfr g60) (xlo xsw0 (by decide) g61) (xKr hq (fun x63 h62 hq e64 => ?_) (fun _ _ q _ => q))
        replace hq := hq e64
        obtain ⟨r65, g66, hq⟩ := hq
        rw [g66]
        exact x_athrow dX5_block_96 hq
    · replace hq := hq.2 c11
      refine x_aload_n 0 dX5_block_58 rfl ?_
      refine x_bipush (v := 12) dX5_block_59 (by decide) ?_
      refine x_aload 5 dX5_block_61 rfl ?_
      obtain ⟨g67, g68, hq⟩ := hq
      refine x_callV (Yc := YX15_place) (as := []) (st := [.int 12, rv x0]) q2013 mvX15_place g9 rfl dX5_block_63 (xle (xal1 (rv_cat _) xal0) (by decide)) (xfr g67) (xlo (xsw1 rfl (xsw1 (rv_cat _) xsw0)) (by decide) g68) (xKi hq (fun x70 h69 hq e71 => ?_) (fun _ _ q _ => q))
      replace hq := hq e71
      obtain ⟨g72, hq⟩ := hq
      obtain ⟨g73, g74, hq⟩ := hq
      refine x_callV (Yc := YX5_fault) (as := [.int 12, .int x70]) (st := []) q2087 mvX5_fault g72 rfl dX5_block_66 (xle (xal1 (rv_cat _) (xal1 rfl (xal1 rfl xal0))) (by decide)) (xfr g73) (xlo xsw0 (by decide) g74) (xKr hq (fun x76 h75 hq e77 => ?_) (fun _ _ q _ => q))
      replace hq := hq e77
      obtain ⟨r78, g79, hq⟩ := hq
      rw [g79]
      exact x_athrow dX5_block_69 hq
set_option maxRecDepth 100000 in
def bX5_block (G : xG) (fr lo : Nat) (x0 : Nat) (x1 : Nat) (x2 : Nat) (x3 : Nat) (h : xH) (Q : Outcome → xH → Prop) : Prop := nx h + 1 ≤ xGN G ∧ us h + 11 ≤ xGU G ∧ (∀ (a3 : Nat) (h4 : xH), a3 = nx h + 1 → h4 = nO h 18 11 → xfresh h a3 → tg h4 x0 = 6 ∧ tg h4 x2 = 17 ∧ 1 ≤ fr ∧ 16 ≤ lo ∧ xRv G YX17_init (fr - 1) (lo - 16) [rv a3, rv (fR h4 x0 1294), rv x2, rv (fR h4 x2 4101)] h4 (fun h13 => xext h4 h13 → (∀ h17 : xH, h17 = sR h13 x0 1294 a3 → (∀ h20 : xH, h20 = sR h17 x0 1295 x2 → tg h20 x1 = 16 ∧ 1 ≤ fr ∧ 15 ≤ lo ∧ xRr G YX15_kid (fr - 1) (lo - 15) [rv x1, .int 0] h20 (fun x26 h25 => xext h20 h25 → tg h25 x26 = 16 ∧ lX5_block_39 G fr lo x0 x1 x2 x3 a3 (fR h25 x26 3842) h25 Q) (fun r h2 => Q (.threw r) h2)))) (fun r h2 => Q (.threw r) h2))
set_option maxRecDepth 100000 in
theorem uX5_block {G : xG} {fr lo : Nat} {x0 : Nat} {x1 : Nat} {x2 : Nat} {x3 : Nat} {h : xH} {Q : Outcome → xH → Prop} (hq : bX5_block G fr lo x0 x1 x2 x3 h Q) : xP G YX5_block fr lo 0 [(0, rv x0), (1, rv x1), (2, rv x2), (3, rv x3)] [] h Q := by
  unfold bX5_block at hq
  obtain ⟨g1, g2, hq⟩ := hq
  obtain ⟨a3, e5⟩ : ∃ y, y = nx h + 1 := ⟨_, rfl⟩
  obtain ⟨h4, e6⟩ : ∃ y, y = nO h 18 11 := ⟨_, rfl⟩
  refine x_new' cdX5_301 dX5_block_0 g1 g2 e5 e6 (fun f7 => ?_)
  replace hq := hq a3 h4 e5 e6 f7
  have t8 : tg h4 a3 = 18 := by rw [e6, e5]; exact tg_nO
  refine x_dup dX5_block_3 (rv_cat _) ?_
  refine x_aload_n 0 dX5_block_4 rfl ?_
  obtain ⟨g9, hq⟩ := hq
  refine x_get (v := rv (fR h4 x0 1294)) fdX5_296 dX5_block_5 g9 rfl ?_
  refine x_aload_n 2 dX5_block_8 rfl ?_
  refine x_aload_n 2 dX5_block_9 rfl ?_
  obtain ⟨g10, hq⟩ := hq
  refine x_getN (v := rv (fR h4 x2 4101)) gfX5_415 dX5_block_10 g10 rfl ?_
  obtain ⟨g11, g12, hq⟩ := hq
  refine x_callI (Yc := YX17_init) (as := [rv (fR h4 x0 1294), rv x2, rv (fR h4 x2 4101)]) (st := [rv a3]) q2139 miX17_init (by rw [t8]; decide) rfl dX5_block_13 (xle (xal1 (rv_cat _) (xal1 (rv_cat _) (xal1 (rv_cat _) (xal1 (rv_cat _) xal0)))) (by decide)) (xfr g11) (xlo (xsw1 (rv_cat _) xsw0) (by decide) g12) (xKv hq (fun h13 hq e15 => ?_) (fun _ _ q _ => q))
  replace hq := hq e15
  refine x_astore (lv' := [(4, rv a3), (0, rv x0), (1, rv x1), (2, rv x2), (3, rv x3)]) dX5_block_16 (by decide) (by first | rfl | (simp [rv_cat, Value.category]; done) | (simp [rv_cat, Value.category]; decide)) ?_
  refine x_aload_n 1 dX5_block_18 rfl ?_
  refine x_aload 0 dX5_block_19 rfl ?_
  have t16 : tg h13 x0 = 6 := e15.tg g9 (by decide)
  obtain ⟨h17, e18⟩ : ∃ y, y = sR h13 x0 1294 a3 := ⟨_, rfl⟩
  replace hq := hq h17 e18
  refine x_putR fdX5_296 xty_O dX5_block_21 t16 (Or.inl (by rw [t16]; rfl)) rfl e18 ?_
  refine x_aload_n 1 dX5_block_24 rfl ?_
  refine x_aload_n 3 dX5_block_25 rfl ?_
  have t19 : tg h17 x0 = 6 := by rw [e18]; exact t16
  obtain ⟨h20, e21⟩ : ∃ y, y = sR h17 x0 1295 x2 := ⟨_, rfl⟩
  replace hq := hq h20 e21
  refine x_putR fdX5_416 xty_O dX5_block_26 t19 (Or.inl (by rw [t19]; rfl)) rfl e21 ?_
  refine x_aload_n 2 dX5_block_29 rfl ?_
  refine x_iconst (v := 0) dX5_block_30 (by decide) ?_
  obtain ⟨g22, hq⟩ := hq
  obtain ⟨g23, g24, hq⟩ := hq
  refine x_callV (Yc := YX15_kid) (as := [.int 0]) (st := []) q2129 mvX15_kid g22 rfl dX5_block_31 (xle (xal1 (rv_cat _) (xal1 rfl xal0)) (by decide)) (xfr g23) (xlo xsw0 (by decide) g24) (xKr hq (fun x26 h25 hq e27 => ?_) (fun _ _ q _ => q))
  replace hq := hq e27
  obtain ⟨g28, hq⟩ := hq
  refine x_getN (v := rv (fR h25 x26 3842)) gfX5_251 dX5_block_34 g28 rfl ?_
  refine x_astore (lv' := [(5, rv (fR h25 x26 3842)), (4, rv a3), (0, rv x0), (1, rv x1), (2, rv x2), (3, rv x3)]) dX5_block_37 (by decide) (by first | rfl | (simp [rv_cat, Value.category]; done) | (simp [rv_cat, Value.category]; decide)) ?_
  refine xP.pick (lv' := [(0, rv x0), (1, rv x1), (2, rv x2), (3, rv x3), (4, rv a3), (5, rv (fR h25 x26 3842))]) [2, 3, 4, 5, 1, 0] rfl ?_
  exact hq
theorem rX5_block {G : xG} {fr lo : Nat} {x0 : Nat} {x1 : Nat} {x2 : Nat} {x3 : Nat} {h : xH} {Q : Outcome → xH → Prop} (hq : bX5_block G fr lo x0 x1 x2 x3 h Q) : xR G YX5_block fr lo [rv x0, rv x1, rv x2, rv x3] h Q := by
  show xP _ _ _ _ _ (lv_args 0 _) _ _ _
  rw [show lv_args 0 [rv x0, rv x1, rv x2, rv x3] = [(0, rv x0), (1, rv x1), (2, rv x2), (3, rv x3)] from (xla1 (rv_cat _) (xla1 (rv_cat _) (xla1 (rv_cat _) (xla1 (rv_cat _) xla0))))]
  exact uX5_block hq
set_option maxRecDepth 100000 in
theorem dX5_constant_0 : decode cX5_constant 0 = .ok (.aload_n 1, 1) := by decide +kernel
set_option maxRecDepth 100000 in
theorem dX5_constant_1 : decode cX5_constant 1 = .ok (.getfield 202, 3) := by decide +kernel
set_option maxRecDepth 100000 in
theorem dX5_constant_4 : decode cX5_constant 4 = .ok (.astore_n 2, 1) := by decide +kernel
set_option maxRecDepth 100000 in
theorem dX5_constant_5 : decode cX5_constant 5 = .ok (.aload_n 2, 1) := by decide +kernel
set_option maxRecDepth 100000 in
theorem dX5_constant_6 : decode cX5_constant 6 = .ok (.getfield 205, 3) := by decide +kernel
set_option maxRecDepth 100000 in
theorem dX5_constant_9 : decode cX5_constant 9 = .ok (.getstatic 211, 3) := by decide +kernel
set_option maxRecDepth 100000 in
theorem dX5_constant_12 : decode cX5_constant 12 = .ok (.if_acmp .ne 22, 3) := by decide +kernel
set_option maxRecDepth 100000 in
theorem dX5_constant_15 : decode cX5_constant 15 = .ok (.aload_n 0, 1) := by decide +kernel
set_option maxRecDepth 100000 in
theorem dX5_constant_16 : decode cX5_constant 16 = .ok (.aload_n 0, 1) := by decide +kernel
set_option maxRecDepth 100000 in
theorem dX5_constant_17 : decode cX5_constant 17 = .ok (.getfield 20, 3) := by decide +kernel
set_option maxRecDepth 100000 in
theorem dX5_constant_20 : decode cX5_constant 20 = .ok (.putfield 216, 3) := by decide +kernel
set_option maxRecDepth 100000 in
theorem dX5_constant_23 : decode cX5_constant 23 = .ok (.aload_n 0, 1) := by decide +kernel
set_option maxRecDepth 100000 in
theorem dX5_constant_24 : decode cX5_constant 24 = .ok (.aload_n 2, 1) := by decide +kernel
set_option maxRecDepth 100000 in
theorem dX5_constant_25 : decode cX5_constant 25 = .ok (.getfield 219, 3) := by decide +kernel
set_option maxRecDepth 100000 in
theorem dX5_constant_28 : decode cX5_constant 28 = .ok (.putfield 222, 3) := by decide +kernel
set_option maxRecDepth 100000 in
theorem dX5_constant_31 : decode cX5_constant 31 = .ok (.goto 162, 3) := by decide +kernel
set_option maxRecDepth 100000 in
theorem dX5_constant_34 : decode cX5_constant 34 = .ok (.aload_n 2, 1) := by decide +kernel
set_option maxRecDepth 100000 in
theorem dX5_constant_35 : decode cX5_constant 35 = .ok (.getfield 205, 3) := by decide +kernel
set_option maxRecDepth 100000 in
theorem dX5_constant_38 : decode cX5_constant 38 = .ok (.getstatic 225, 3) := by decide +kernel
set_option maxRecDepth 100000 in
theorem dX5_constant_41 : decode cX5_constant 41 = .ok (.if_acmp .ne 22, 3) := by decide +kernel
set_option maxRecDepth 100000 in
theorem dX5_constant_44 : decode cX5_constant 44 = .ok (.aload_n 0, 1) := by decide +kernel
set_option maxRecDepth 100000 in
theorem dX5_constant_45 : decode cX5_constant 45 = .ok (.aload_n 0, 1) := by decide +kernel
set_option maxRecDepth 100000 in
theorem dX5_constant_46 : decode cX5_constant 46 = .ok (.getfield 26, 3) := by decide +kernel
set_option maxRecDepth 100000 in
theorem dX5_constant_49 : decode cX5_constant 49 = .ok (.putfield 216, 3) := by decide +kernel
set_option maxRecDepth 100000 in
theorem dX5_constant_52 : decode cX5_constant 52 = .ok (.aload_n 0, 1) := by decide +kernel
set_option maxRecDepth 100000 in
theorem dX5_constant_53 : decode cX5_constant 53 = .ok (.aload_n 2, 1) := by decide +kernel
set_option maxRecDepth 100000 in
theorem dX5_constant_54 : decode cX5_constant 54 = .ok (.getfield 228, 3) := by decide +kernel
set_option maxRecDepth 100000 in
theorem dX5_constant_57 : decode cX5_constant 57 = .ok (.putfield 231, 3) := by decide +kernel
set_option maxRecDepth 100000 in
theorem dX5_constant_60 : decode cX5_constant 60 = .ok (.goto 133, 3) := by decide +kernel
set_option maxRecDepth 100000 in
theorem dX5_constant_63 : decode cX5_constant 63 = .ok (.aload_n 2, 1) := by decide +kernel
set_option maxRecDepth 100000 in
theorem dX5_constant_64 : decode cX5_constant 64 = .ok (.getfield 205, 3) := by decide +kernel
set_option maxRecDepth 100000 in
theorem dX5_constant_67 : decode cX5_constant 67 = .ok (.getstatic 234, 3) := by decide +kernel
set_option maxRecDepth 100000 in
theorem dX5_constant_70 : decode cX5_constant 70 = .ok (.if_acmp .ne 92, 3) := by decide +kernel
set_option maxRecDepth 100000 in
theorem dX5_constant_73 : decode cX5_constant 73 = .ok (.aload_n 2, 1) := by decide +kernel
set_option maxRecDepth 100000 in
theorem dX5_constant_74 : decode cX5_constant 74 = .ok (.getfield 237, 3) := by decide +kernel
set_option maxRecDepth 100000 in
theorem dX5_constant_77 : decode cX5_constant 77 = .ok (.invokevirtual 89, 3) := by decide +kernel
set_option maxRecDepth 100000 in
theorem dX5_constant_80 : decode cX5_constant 80 = .ok (.iconst 1, 1) := by decide +kernel
set_option maxRecDepth 100000 in
theorem dX5_constant_81 : decode cX5_constant 81 = .ok (.if_icmp .ne 7, 3) := by decide +kernel
set_option maxRecDepth 100000 in
theorem dX5_constant_84 : decode cX5_constant 84 = .ok (.iconst 1, 1) := by decide +kernel
set_option maxRecDepth 100000 in
theorem dX5_constant_85 : decode cX5_constant 85 = .ok (.goto 4, 3) := by decide +kernel
set_option maxRecDepth 100000 in
theorem dX5_constant_88 : decode cX5_constant 88 = .ok (.iconst 0, 1) := by decide +kernel
set_option maxRecDepth 100000 in
theorem dX5_constant_89 : decode cX5_constant 89 = .ok (.istore_n 3, 1) := by decide +kernel
set_option maxRecDepth 100000 in
theorem dX5_constant_90 : decode cX5_constant 90 = .ok (.aload_n 0, 1) := by decide +kernel
set_option maxRecDepth 100000 in
theorem dX5_constant_91 : decode cX5_constant 91 = .ok (.iload_n 3, 1) := by decide +kernel
set_option maxRecDepth 100000 in
theorem dX5_constant_92 : decode cX5_constant 92 = .ok (.ifCond .eq 14, 3) := by decide +kernel
set_option maxRecDepth 100000 in
theorem dX5_constant_95 : decode cX5_constant 95 = .ok (.aload_n 2, 1) := by decide +kernel
set_option maxRecDepth 100000 in
theorem dX5_constant_96 : decode cX5_constant 96 = .ok (.getfield 237, 3) := by decide +kernel
set_option maxRecDepth 100000 in
theorem dX5_constant_99 : decode cX5_constant 99 = .ok (.iconst 0, 1) := by decide +kernel
set_option maxRecDepth 100000 in
theorem dX5_constant_100 : decode cX5_constant 100 = .ok (.invokevirtual 95, 3) := by decide +kernel
set_option maxRecDepth 100000 in
theorem dX5_constant_103 : decode cX5_constant 103 = .ok (.goto 18, 3) := by decide +kernel
set_option maxRecDepth 100000 in
theorem dX5_constant_106 : decode cX5_constant 106 = .ok (.sipush 30000, 3) := by decide +kernel
set_option maxRecDepth 100000 in
theorem dX5_constant_109 : decode cX5_constant 109 = .ok (.aload_n 0, 1) := by decide +kernel
set_option maxRecDepth 100000 in
theorem dX5_constant_110 : decode cX5_constant 110 = .ok (.getfield 62, 3) := by decide +kernel
set_option maxRecDepth 100000 in
theorem dX5_constant_113 : decode cX5_constant 113 = .ok (.aload_n 2, 1) := by decide +kernel
set_option maxRecDepth 100000 in
theorem dX5_constant_114 : decode cX5_constant 114 = .ok (.getfield 237, 3) := by decide +kernel
set_option maxRecDepth 100000 in
theorem dX5_constant_117 : decode cX5_constant 117 = .ok (.invokevirtual 239, 3) := by decide +kernel
set_option maxRecDepth 100000 in
theorem dX5_constant_120 : decode cX5_constant 120 = .ok (.iadd, 1) := by decide +kernel
set_option maxRecDepth 100000 in
theorem dX5_constant_121 : decode cX5_constant 121 = .ok (.putfield 222, 3) := by decide +kernel
set_option maxRecDepth 100000 in
theorem dX5_constant_124 : decode cX5_constant 124 = .ok (.aload_n 0, 1) := by decide +kernel
set_option maxRecDepth 100000 in
theorem dX5_constant_125 : decode cX5_constant 125 = .ok (.iload_n 3, 1) := by decide +kernel
set_option maxRecDepth 100000 in
theorem dX5_constant_126 : decode cX5_constant 126 = .ok (.ifCond .eq 10, 3) := by decide +kernel
set_option maxRecDepth 100000 in
theorem dX5_constant_129 : decode cX5_constant 129 = .ok (.aload_n 0, 1) := by decide +kernel
set_option maxRecDepth 100000 in
theorem dX5_constant_130 : decode cX5_constant 130 = .ok (.getfield 32, 3) := by decide +kernel
set_option maxRecDepth 100000 in
theorem dX5_constant_133 : decode cX5_constant 133 = .ok (.goto 23, 3) := by decide +kernel
set_option maxRecDepth 100000 in
theorem dX5_constant_136 : decode cX5_constant 136 = .ok (.new 9, 3) := by decide +kernel
set_option maxRecDepth 100000 in
theorem dX5_constant_139 : decode cX5_constant 139 = .ok (.dup, 1) := by decide +kernel
set_option maxRecDepth 100000 in
theorem dX5_constant_140 : decode cX5_constant 140 = .ok (.bipush 13, 2) := by decide +kernel
set_option maxRecDepth 100000 in
theorem dX5_constant_142 : decode cX5_constant 142 = .ok (.invokespecial 11, 3) := by decide +kernel
set_option maxRecDepth 100000 in
theorem dX5_constant_145 : decode cX5_constant 145 = .ok (.iconst 1, 1) := by decide +kernel
set_option maxRecDepth 100000 in
theorem dX5_constant_146 : decode cX5_constant 146 = .ok (.aload_n 2, 1) := by decide +kernel
set_option maxRecDepth 100000 in
theorem dX5_constant_147 : decode cX5_constant 147 = .ok (.getfield 237, 3) := by decide +kernel
set_option maxRecDepth 100000 in
theorem dX5_constant_150 : decode cX5_constant 150 = .ok (.invokevirtual 89, 3) := by decide +kernel
set_option maxRecDepth 100000 in
theorem dX5_constant_153 : decode cX5_constant 153 = .ok (.invokevirtual 16, 3) := by decide +kernel
set_option maxRecDepth 100000 in
theorem dX5_constant_156 : decode cX5_constant 156 = .ok (.putfield 216, 3) := by decide +kernel
set_option maxRecDepth 100000 in
theorem dX5_constant_159 : decode cX5_constant 159 = .ok (.goto 34, 3) := by decide +kernel
set_option maxRecDepth 100000 in
theorem dX5_constant_162 : decode cX5_constant 162 = .ok (.aload_n 0, 1) := by decide +kernel
set_option maxRecDepth 100000 in
theorem dX5_constant_163 : decode cX5_constant 163 = .ok (.aload_n 1, 1) := by decide +kernel
set_option maxRecDepth 100000 in
theorem dX5_constant_164 : decode cX5_constant 164 = .ok (.iconst 0, 1) := by decide +kernel
set_option maxRecDepth 100000 in
theorem dX5_constant_165 : decode cX5_constant 165 = .ok (.invokevirtual 245, 3) := by decide +kernel
set_option maxRecDepth 100000 in
theorem dX5_constant_168 : decode cX5_constant 168 = .ok (.astore_n 3, 1) := by decide +kernel
set_option maxRecDepth 100000 in
theorem dX5_constant_169 : decode cX5_constant 169 = .ok (.aload_n 0, 1) := by decide +kernel
set_option maxRecDepth 100000 in
theorem dX5_constant_170 : decode cX5_constant 170 = .ok (.aload_n 3, 1) := by decide +kernel
set_option maxRecDepth 100000 in
theorem dX5_constant_171 : decode cX5_constant 171 = .ok (.getfield 249, 3) := by decide +kernel
set_option maxRecDepth 100000 in
theorem dX5_constant_174 : decode cX5_constant 174 = .ok (.putfield 216, 3) := by decide +kernel
set_option maxRecDepth 100000 in
theorem dX5_constant_177 : decode cX5_constant 177 = .ok (.aload_n 0, 1) := by decide +kernel
set_option maxRecDepth 100000 in
theorem dX5_constant_178 : decode cX5_constant 178 = .ok (.aload_n 3, 1) := by decide +kernel
set_option maxRecDepth 100000 in
theorem dX5_constant_179 : decode cX5_constant 179 = .ok (.getfield 112, 3) := by decide +kernel
set_option maxRecDepth 100000 in
theorem dX5_constant_182 : decode cX5_constant 182 = .ok (.putfield 222, 3) := by decide +kernel
set_option maxRecDepth 100000 in
theorem dX5_constant_185 : decode cX5_constant 185 = .ok (.aload_n 0, 1) := by decide +kernel
set_option maxRecDepth 100000 in
theorem dX5_constant_186 : decode cX5_constant 186 = .ok (.aload_n 3, 1) := by decide +kernel
set_option maxRecDepth 100000 in
theorem dX5_constant_187 : decode cX5_constant 187 = .ok (.getfield 250, 3) := by decide +kernel
set_option maxRecDepth 100000 in
theorem dX5_constant_190 : decode cX5_constant 190 = .ok (.putfield 231, 3) := by decide +kernel
set_option maxRecDepth 100000 in
theorem dX5_constant_193 : decode cX5_constant 193 = .ok (.aload_n 1, 1) := by decide +kernel
set_option maxRecDepth 100000 in
theorem dX5_constant_194 : decode cX5_constant 194 = .ok (.getfield 251, 3) := by decide +kernel
set_option maxRecDepth 100000 in
theorem dX5_constant_197 : decode cX5_constant 197 = .ok (.ifnonnull 4, 3) := by decide +kernel
set_option maxRecDepth 100000 in
theorem dX5_constant_200 : decode cX5_constant 200 = .ok (.return_, 1) := by decide +kernel
set_option maxRecDepth 100000 in
theorem dX5_constant_201 : decode cX5_constant 201 = .ok (.aload_n 0, 1) := by decide +kernel
set_option maxRecDepth 100000 in
theorem dX5_constant_202 : decode cX5_constant 202 = .ok (.getfield 216, 3) := by decide +kernel
set_option maxRecDepth 100000 in
theorem dX5_constant_205 : decode cX5_constant 205 = .ok (.invokevirtual 255, 3) := by decide +kernel
set_option maxRecDepth 100000 in
theorem dX5_constant_208 : decode cX5_constant 208 = .ok (.ifCond .ne 17, 3) := by decide +kernel
set_option maxRecDepth 100000 in
theorem dX5_constant_211 : decode cX5_constant 211 = .ok (.aload_n 0, 1) := by decide +kernel
set_option maxRecDepth 100000 in
theorem dX5_constant_212 : decode cX5_constant 212 = .ok (.bipush 7, 2) := by decide +kernel
set_option maxRecDepth 100000 in
theorem dX5_constant_214 : decode cX5_constant 214 = .ok (.aload_n 1, 1) := by decide +kernel
set_option maxRecDepth 100000 in
theorem dX5_constant_215 : decode cX5_constant 215 = .ok (.getfield 251, 3) := by decide +kernel
set_option maxRecDepth 100000 in
theorem dX5_constant_218 : decode cX5_constant 218 = .ok (.invokevirtual 192, 3) := by decide +kernel
set_option maxRecDepth 100000 in
theorem dX5_constant_221 : decode cX5_constant 221 = .ok (.invokevirtual 163, 3) := by decide +kernel
set_option maxRecDepth 100000 in
theorem dX5_constant_224 : decode cX5_constant 224 = .ok (.athrow, 1) := by decide +kernel
set_option maxRecDepth 100000 in
theorem dX5_constant_225 : decode cX5_constant 225 = .ok (.aload_n 1, 1) := by decide +kernel
set_option maxRecDepth 100000 in
theorem dX5_constant_226 : decode cX5_constant 226 = .ok (.getfield 251, 3) := by decide +kernel
set_option maxRecDepth 100000 in
theorem dX5_constant_229 : decode cX5_constant 229 = .ok (.invokevirtual 173, 3) := by decide +kernel
set_option maxRecDepth 100000 in
theorem dX5_constant_232 : decode cX5_constant 232 = .ok (.ldc_w 259, 3) := by decide +kernel
set_option maxRecDepth 100000 in
theorem dX5_constant_235 : decode cX5_constant 235 = .ok (.invokevirtual 261, 3) := by decide +kernel
set_option maxRecDepth 100000 in
theorem dX5_constant_238 : decode cX5_constant 238 = .ok (.ifCond .ne 4, 3) := by decide +kernel
set_option maxRecDepth 100000 in
theorem dX5_constant_241 : decode cX5_constant 241 = .ok (.return_, 1) := by decide +kernel
set_option maxRecDepth 100000 in
theorem dX5_constant_242 : decode cX5_constant 242 = .ok (.aload_n 0, 1) := by decide +kernel
set_option maxRecDepth 100000 in
theorem dX5_constant_243 : decode cX5_constant 243 = .ok (.aload_n 0, 1) := by decide +kernel
set_option maxRecDepth 100000 in
theorem dX5_constant_244 : decode cX5_constant 244 = .ok (.getfield 222, 3) := by decide +kernel
set_option maxRecDepth 100000 in
theorem dX5_constant_247 : decode cX5_constant 247 = .ok (.ineg, 1) := by decide +kernel
set_option maxRecDepth 100000 in
theorem dX5_constant_248 : decode cX5_constant 248 = .ok (.putfield 222, 3) := by decide +kernel
set_option maxRecDepth 100000 in
theorem dX5_constant_251 : decode cX5_constant 251 = .ok (.aload_n 0, 1) := by decide +kernel
set_option maxRecDepth 100000 in
theorem dX5_constant_252 : decode cX5_constant 252 = .ok (.aload_n 0, 1) := by decide +kernel
set_option maxRecDepth 100000 in
theorem dX5_constant_253 : decode cX5_constant 253 = .ok (.getfield 231, 3) := by decide +kernel
set_option maxRecDepth 100000 in
theorem dX5_constant_256 : decode cX5_constant 256 = .ok (.dneg, 1) := by decide +kernel
set_option maxRecDepth 100000 in
theorem dX5_constant_257 : decode cX5_constant 257 = .ok (.putfield 231, 3) := by decide +kernel
set_option maxRecDepth 100000 in
theorem dX5_constant_260 : decode cX5_constant 260 = .ok (.return_, 1) := by decide +kernel
set_option maxRecDepth 100000 in
def bX5_constant_193 (G : xG) (fr lo : Nat) (x0 : Nat) (x1 : Nat) (h : xH) (Q : Outcome → xH → Prop) : Prop := tg h x1 = 16 ∧ ((¬ (fR h x1 3842) = 0 → tg h x0 = 6 ∧ tg h (fR h x0 1296) = 7 ∧ 1 ≤ fr ∧ 12 ≤ lo ∧ xRi G YX6_isNumber (fr - 1) (lo - 12) [rv (fR h x0 1296)] h (fun x8 h7 => xext h h7 → ((¬ x8 = 0 → tg h7 (fR h7 x1 3842) = 16 ∧ 1 ≤ fr ∧ 12 ≤ lo ∧ xRr G YX15_text (fr - 1) (lo - 12) [rv (fR h7 x1 3842)] h7 (fun x16 h15 => xext h7 h15 → tg h15 x16 = 31 ∧ 1 ≤ fr ∧ 14 ≤ lo ∧ xRi G YJ5_equals (fr - 1) (lo - 14) [rv x16, rv (tx G 54)] h15 (fun x22 h21 => xext h15 h21 → ((¬ x22 = 0 → (∀ h28 : xH, h28 = sI h21 x0 1297 (-(fI h21 x0 1297)) → (∀ h31 : xH, h31 = sD h28 x0 1298 (FP.dneg (fD h28 x0 1298)) → Q (.returned none) h31))) ∧ (x22 = 0 → Q (.returned none) h21))) (fun r h2 => Q (.threw r) h2)) (fun r h2 => Q (.threw r) h2)) ∧ (x8 = 0 → tg h7 (fR h7 x1 3842) = 16 ∧ 1 ≤ fr ∧ 14 ≤ lo ∧ xRi G YX15_place (fr - 1) (lo - 14) [rv (fR h7 x1 3842)] h7 (fun x38 h37 => xext h7 h37 → 1 ≤ fr ∧ 14 ≤ lo ∧ xRr G YX5_fault (fr - 1) (lo - 14) [rv x0, .int 7, .int x38] h37 (fun x45 h44 => xext h37 h44 → (∃ r47, x45 = r47 + 1 ∧ Q (.threw r47) h44)) (fun r h2 => Q (.threw r) h2)) (fun r h2 => Q (.threw r) h2)))) (fun r h2 => Q (.threw r) h2)) ∧ ((fR h x1 3842) = 0 → Q (.returned none) h))
set_option maxRecDepth 100000 in
theorem uX5_constant_193 {G : xG} {fr lo : Nat} {x0 : Nat} {x1 : Nat} {h : xH} {Q : Outcome → xH → Prop} (hq : bX5_constant_193 G fr lo x0 x1 h Q) : xP G YX5_constant fr lo 193 [(0, rv x0), (1, rv x1)] [] h Q := by
  unfold bX5_constant_193 at hq
  refine x_aload_n 1 dX5_constant_193 rfl ?_
  obtain ⟨g1, hq⟩ := hq
  refine x_getN (v := rv (fR h x1 3842)) gfX5_251 dX5_constant_194 g1 rfl ?_
  refine x_ifnonnull (tgt := 201) dX5_constant_197 (by decide) (fun c2 => ?_) (fun c2 => ?_)
  · replace hq := hq.1 c2
    refine x_aload_n 0 dX5_constant_201 rfl ?_
    obtain ⟨g3, hq⟩ := hq
    refine x_get (v := rv (fR h x0 1296)) fdX5_216 dX5_constant_202 g3 rfl ?_
    obtain ⟨g4, hq⟩ := hq
    obtain ⟨g5, g6, hq⟩ := hq
    refine x_callV (Yc := YX6_isNumber) (as := []) (st := []) q2258 mvX6_isNumber g4 rfl dX5_constant_205 (xle (xal1 (rv_cat _) xal0) (by decide)) (xfr g5) (xlo xsw0 (by decide) g6) (xKi hq (fun x8 h7 hq e9 => ?_) (fun _ _ q _ => q))
    replace hq := hq e9
    refine x_if_ne (tgt := 225) dX5_constant_208 (by decide) (fun c10 => ?_) (fun c10 => ?_)
    · replace hq := hq.1 c10
      refine x_aload_n 1 dX5_constant_225 rfl ?_
      have t11 : tg h7 x1 = 16 := e9.tg g1 (by decide)
      refine x_getN (v := rv (fR h7 x1 3842)) gfX5_251 dX5_constant_226 t11 rfl ?_
      obtain ⟨g12, hq⟩ := hq
      obtain ⟨g13, g14, hq⟩ := hq
      refine x_callV (Yc := YX15_text) (as := []) (st := []) q2009 mvX15_text g12 rfl dX5_constant_229 (xle (xal1 (rv_cat _) xal0) (by decide)) (xfr g13) (xlo xsw0 (by decide) g14) (xKr hq (fun x16 h15 hq e17 => ?_) (fun _ _ q _ => q))
      replace hq := hq e17
      refine x_ldcwS (n := 54) 126 srX5_259 dX5_constant_232 ?_
      obtain ⟨g18, hq⟩ := hq
      obtain ⟨g19, g20, hq⟩ := hq
      refine x_callV (Yc := YJ5_equals) (as := [rv (tx G 54)]) (st := []) q2086 mvJ5_equals g18 rfl dX5_constant_235 (xle (xal1 (rv_cat _) (xal1 (rv_cat _) xal0)) (by decide)) (xfr g19) (xlo xsw0 (by decide) g20) (xKi hq (fun x22 h21 hq e23 => ?_) (fun _ _ q _ => q))
      replace hq := hq e23
      refine x_if_ne (tgt := 242) dX5_constant_238 (by decide) (fun c24 => ?_) (fun c24 => ?_)
      · replace hq := hq.1 c24
        refine x_aload_n 0 dX5_constant_242 rfl ?_
        refine x_aload_n 0 dX5_constant_243 rfl ?_
        have t25 : tg h7 x0 = 6 := e9.tg g3 (by decide)
        have t26 : tg h15 x0 = 6 := e17.tg t25 (by decide)
        have t27 : tg h21 x0 = 6 := e23.tg t26 (by decide)
        refine x_get (v := .int (fI h21 x0 1297)) fdX5_222 dX5_constant_244 t27 rfl ?_
        refine x_ineg dX5_constant_247 ?_
        obtain ⟨h28, e29⟩ : ∃ y, y = sI h21 x0 1297 (-(fI h21 x0 1297)) := ⟨_, rfl⟩
        replace hq := hq h28 e29
        refine x_putI fdX5_222 xty_I1 dX5_constant_248 t27 (Or.inl (by rw [t27]; rfl)) xnI rfl e29 ?_
        refine x_aload_n 0 dX5_constant_251 rfl ?_
        refine x_aload_n 0 dX5_constant_252 rfl ?_
        have t30 : tg h28 x0 = 6 := by rw [e29]; exact t27
        refine x_get (v := .double (fD h28 x0 1298)) fdX5_231 dX5_constant_253 t30 rfl ?_
        refine x_dneg dX5_constant_256 ?_
        obtain ⟨h31, e32⟩ : ∃ y, y = sD h28 x0 1298 (FP.dneg (fD h28 x0 1298)) := ⟨_, rfl⟩
        replace hq := hq h31 e32
        refine x_putD fdX5_231 dX5_constant_257 t30 (Or.inl (by rw [t30]; rfl)) rfl e32 ?_
        exact x_vret rfl dX5_constant_260 hq
      · replace hq := hq.2 c24
        exact x_vret rfl dX5_constant_241 hq
    · replace hq := hq.2 c10
      refine x_aload_n 0 dX5_constant_211 rfl ?_
      refine x_bipush (v := 7) dX5_constant_212 (by decide) ?_
      refine x_aload_n 1 dX5_constant_214 rfl ?_
      have t33 : tg h7 x1 = 16 := e9.tg g1 (by decide)
      refine x_getN (v := rv (fR h7 x1 3842)) gfX5_251 dX5_constant_215 t33 rfl ?_
      obtain ⟨g34, hq⟩ := hq
      obtain ⟨g35, g36, hq⟩ := hq
      refine x_callV (Yc := YX15_place) (as := []) (st := [.int 7, rv x0]) q2013 mvX15_place g34 rfl dX5_constant_218 (xle (xal1 (rv_cat _) xal0) (by decide)) (xfr g35) (xlo (xsw1 rfl (xsw1 (rv_cat _) xsw0)) (by decide) g36) (xKi hq (fun x38 h37 hq e39 => ?_) (fun _ _ q _ => q))
      replace hq := hq e39
      have t40 : tg h7 x0 = 6 := e9.tg g3 (by decide)
      have t41 : tg h37 x0 = 6 := e39.tg t40 (by decide)
      obtain ⟨g42, g43, hq⟩ := hq
      refine x_callV (Yc := YX5_fault) (as := [.int 7, .int x38]) (st := []) q2087 mvX5_fault t41 rfl dX5_constant_221 (xle (xal1 (rv_cat _) (xal1 rfl (xal1 rfl xal0))) (by decide)) (xfr g42) (xlo xsw0 (by decide) g43) (xKr hq (fun x45 h44 hq e46 => ?_) (fun _ _ q _ => q))
      replace hq := hq e46
      obtain ⟨r47, g48, hq⟩ := hq
      rw [g48]
      exact x_athrow dX5_constant_224 hq
  · replace hq := hq.2 c2
    exact x_vret rfl dX5_constant_200 hq
set_option maxRecDepth 100000 in
def bX5_constant_156 (G : xG) (fr lo : Nat) (x0 : Nat) (x1 : Nat) (s0 : Nat) (s1 : Nat) (h : xH) (Q : Outcome → xH → Prop) : Prop := tg h s1 = 6 ∧ (∀ h2 : xH, h2 = sR h s1 1296 s0 → bX5_constant_193 G fr lo x0 x1 h2 Q)
set_option maxRecDepth 100000 in
theorem uX5_constant_156 {G : xG} {fr lo : Nat} {x0 : Nat} {x1 : Nat} {s0 : Nat} {s1 : Nat} {h : xH} {Q : Outcome → xH → Prop} (hq : bX5_constant_156 G fr lo x0 x1 s0 s1 h Q) : xP G YX5_constant fr lo 156 [(0, rv x0), (1, rv x1)] [rv s0, rv s1] h Q := by
  unfold bX5_constant_156 at hq
  obtain ⟨g1, hq⟩ := hq
  obtain ⟨h2, e3⟩ : ∃ y, y = sR h s1 1296 s0 := ⟨_, rfl⟩
  replace hq := hq h2 e3
  refine x_putR fdX5_216 xty_O dX5_constant_156 g1 (Or.inl (by rw [g1]; rfl)) rfl e3 ?_
  refine x_goto (tgt := 193) dX5_constant_159 (by decide) ?_
  exact uX5_constant_193 hq
set_option maxRecDepth 100000 in
def bX5_constant_121 (G : xG) (fr lo : Nat) (x0 : Nat) (x1 : Nat) (x2 : Nat) (x3 : Int32) (s0 : Int32) (s1 : Nat) (h : xH) (Q : Outcome → xH → Prop) : Prop := tg h s1 = 6 ∧ (∀ h2 : xH, h2 = sI h s1 1297 s0 → ((x3 = 0 → nx h2 + 1 ≤ xGN G ∧ us h2 + 9 ≤ xGU G ∧ (∀ (a7 : Nat) (h8 : xH), a7 = nx h2 + 1 → h8 = nO h2 7 9 → xfresh h2 a7 → 1 ≤ fr ∧ 15 ≤ lo ∧ xRv G YX6_init (fr - 1) (lo - 15) [rv a7, .int 13] h8 (fun h15 => xext h8 h15 → tg h15 x2 = 15 ∧ tg h15 (fR h15 x2 3585) = 31 ∧ 1 ≤ fr ∧ 15 ≤ lo ∧ xRi G YJ5_length (fr - 1) (lo - 15) [rv (fR h15 x2 3585)] h15 (fun x23 h22 => xext h15 h22 → 1 ≤ fr ∧ 15 ≤ lo ∧ xRr G YX6_bounded (fr - 1) (lo - 15) [rv a7, .int 1, .int x23] h22 (fun x30 h29 => xext h22 h29 → bX5_constant_156 G fr lo x0 x1 x30 x0 h29 Q) (fun r h2 => Q (.threw r) h2)) (fun r h2 => Q (.threw r) h2)) (fun r h2 => Q (.threw r) h2))) ∧ (¬ x3 = 0 → tg h2 x0 = 6 ∧ bX5_constant_156 G fr lo x0 x1 (fR h2 x0 1285) x0 h2 Q)))
set_option maxRecDepth 100000 in
theorem uX5_constant_121 {G : xG} {fr lo : Nat} {x0 : Nat} {x1 : Nat} {x2 : Nat} {x3 : Int32} {s0 : Int32} {s1 : Nat} {h : xH} {Q : Outcome → xH → Prop} (hq : bX5_constant_121 G fr lo x0 x1 x2 x3 s0 s1 h Q) : xP G YX5_constant fr lo 121 [(0, rv x0), (1, rv x1), (2, rv x2), (3, .int x3)] [.int s0, rv s1] h Q := by
  unfold bX5_constant_121 at hq
  obtain ⟨g1, hq⟩ := hq
  obtain ⟨h2, e3⟩ : ∃ y, y = sI h s1 1297 s0 := ⟨_, rfl⟩
  replace hq := hq h2 e3
  refine x_putI fdX5_222 xty_I1 dX5_constant_121 g1 (Or.inl (by rw [g1]; rfl)) xnI rfl e3 ?_
  refine x_aload_n 0 dX5_constant_124 rfl ?_
  refine x_iload_n 3 dX5_constant_125 rfl ?_
  refine x_if_eq (tgt := 136) dX5_constant_126 (by decide) (fun c4 => ?_) (fun c4 => ?_)
  · replace hq := hq.1 c4
    obtain ⟨g5, g6, hq⟩ := hq
    obtain ⟨a7, e9⟩ : ∃ y, y = nx h2 + 1 := ⟨_, rfl⟩
    obtain ⟨h8, e10⟩ : ∃ y, y = nO h2 7 9 := ⟨_, rfl⟩
    refine x_new' cdX5_9 dX5_constant_136 g5 g6 e9 e10 (fun f11 => ?_)
    replace hq := hq a7 h8 e9 e10 f11
    have t12 : tg h8 a7 = 7 := by rw [e10, e9]; exact tg_nO
    refine x_dup dX5_constant_139 (rv_cat _) ?_
    refine x_bipush (v := 13) dX5_constant_140 (by decide) ?_
    obtain ⟨g13, g14, hq⟩ := hq
    refine x_callI (Yc := YX6_init) (as := [.int 13]) (st := [rv a7, rv x0]) q689 miX6_init (by rw [t12]; decide) rfl dX5_constant_142 (xle (xal1 (rv_cat _) (xal1 rfl xal0)) (by decide)) (xfr g13) (xlo (xsw1 (rv_cat _) (xsw1 (rv_cat _) xsw0)) (by decide) g14) (xKv hq (fun h15 hq e17 => ?_) (fun _ _ q _ => q))
    replace hq := hq e17
    refine x_iconst (v := 1) dX5_constant_145 (by decide) ?_
    refine x_aload_n 2 dX5_constant_146 rfl ?_
    obtain ⟨g18, hq⟩ := hq
    refine x_getN (v := rv (fR h15 x2 3585)) gfX5_237 dX5_constant_147 g18 rfl ?_
    obtain ⟨g19, hq⟩ := hq
    obtain ⟨g20, g21, hq⟩ := hq
    refine x_callV (Yc := YJ5_length) (as := []) (st := [.int 1, rv a7, rv x0]) q780 mvJ5_length g19 rfl dX5_constant_150 (xle (xal1 (rv_cat _) xal0) (by decide)) (xfr g20) (xlo (xsw1 rfl (xsw1 (rv_cat _) (xsw1 (rv_cat _) xsw0))) (by decide) g21) (xKi hq (fun x23 h22 hq e24 => ?_) (fun _ _ q _ => q))
    replace hq := hq e24
    have t25 : tg h15 a7 = 7 := e17.tg t12 (by decide)
    have t26 : tg h22 a7 = 7 := e24.tg t25 (by decide)
    obtain ⟨g27, g28, hq⟩ := hq
    refine x_callV (Yc := YX6_bounded) (as := [.int 1, .int x23]) (st := [rv x0]) q736 mvX6_bounded t26 rfl dX5_constant_153 (xle (xal1 (rv_cat _) (xal1 rfl (xal1 rfl xal0))) (by decide)) (xfr g27) (xlo (xsw1 (rv_cat _) xsw0) (by decide) g28) (xKr hq (fun x30 h29 hq e31 => ?_) (fun _ _ q _ => q))
    replace hq := hq e31
    refine xP.pick (lv' := [(0, rv x0), (1, rv x1)]) [0, 1] rfl ?_
    exact uX5_constant_156 hq
  · replace hq := hq.2 c4
    refine x_aload_n 0 dX5_constant_129 rfl ?_
    obtain ⟨g32, hq⟩ := hq
    refine x_get (v := rv (fR h2 x0 1285)) fdX5_32 dX5_constant_130 g32 rfl ?_
    refine x_goto (tgt := 156) dX5_constant_133 (by decide) ?_
    refine xP.pick (lv' := [(0, rv x0), (1, rv x1)]) [0, 1] rfl ?_
    exact uX5_constant_156 hq
set_option maxRecDepth 100000 in
def bX5_constant_89 (G : xG) (fr lo : Nat) (x0 : Nat) (x1 : Nat) (x2 : Nat) (s0 : Int32) (h : xH) (Q : Outcome → xH → Prop) : Prop := ((s0 = 0 → tg h x0 = 6 ∧ tg h x2 = 15 ∧ tg h (fR h x0 1281) = 3 ∧ 1 ≤ fr ∧ 17 ≤ lo ∧ xRi G YX2_literal (fr - 1) (lo - 17) [rv (fR h x0 1281), rv (fR h x2 3585)] h (fun x8 h7 => xext h h7 → bX5_constant_121 G fr lo x0 x1 x2 s0 (30000 + x8) x0 h7 Q) (fun r h2 => Q (.threw r) h2)) ∧ (¬ s0 = 0 → tg h x2 = 15 ∧ tg h (fR h x2 3585) = 31 ∧ 1 ≤ fr ∧ 14 ≤ lo ∧ xRi G YJ5_charAt (fr - 1) (lo - 14) [rv (fR h x2 3585), .int 0] h (fun x15 h14 => xext h h14 → bX5_constant_121 G fr lo x0 x1 x2 s0 x15 x0 h14 Q) (fun r h2 => Q (.threw r) h2)))
set_option maxRecDepth 100000 in
theorem uX5_constant_89 {G : xG} {fr lo : Nat} {x0 : Nat} {x1 : Nat} {x2 : Nat} {s0 : Int32} {h : xH} {Q : Outcome → xH → Prop} (hq : bX5_constant_89 G fr lo x0 x1 x2 s0 h Q) : xP G YX5_constant fr lo 89 [(0, rv x0), (1, rv x1), (2, rv x2)] [.int s0] h Q := by
  unfold bX5_constant_89 at hq
  refine x_istore_n (lv' := [(3, .int s0), (0, rv x0), (1, rv x1), (2, rv x2)]) dX5_constant_89 (by decide) (by first | rfl | (simp [rv_cat, Value.category]; done) | (simp [rv_cat, Value.category]; decide)) ?_
  refine x_aload_n 1 dX5_constant_90 rfl ?_
  refine x_iload_n 0 dX5_constant_91 rfl ?_
  refine x_if_eq (tgt := 106) dX5_constant_92 (by decide) (fun c1 => ?_) (fun c1 => ?_)
  · replace hq := hq.1 c1
    refine x_sipush (v := 30000) dX5_constant_106 (by decide) ?_
    refine x_aload_n 1 dX5_constant_109 rfl ?_
    obtain ⟨g2, hq⟩ := hq
    refine x_get (v := rv (fR h x0 1281)) fdX5_62 dX5_constant_110 g2 rfl ?_
    refine x_aload_n 3 dX5_constant_113 rfl ?_
    obtain ⟨g3, hq⟩ := hq
    refine x_getN (v := rv (fR h x2 3585)) gfX5_237 dX5_constant_114 g3 rfl ?_
    obtain ⟨g4, hq⟩ := hq
    obtain ⟨g5, g6, hq⟩ := hq
    refine x_callV (Yc := YX2_literal) (as := [rv (fR h x2 3585)]) (st := [.int 30000, rv x0]) q2236 mvX2_literal g4 rfl dX5_constant_117 (xle (xal1 (rv_cat _) (xal1 (rv_cat _) xal0)) (by decide)) (xfr g5) (xlo (xsw1 rfl (xsw1 (rv_cat _) xsw0)) (by decide) g6) (xKi hq (fun x8 h7 hq e9 => ?_) (fun _ _ q _ => q))
    replace hq := hq e9
    refine x_iadd dX5_constant_120 ?_
    refine xP.pick (lv' := [(0, rv x0), (1, rv x1), (2, rv x2), (3, .int s0)]) [1, 2, 3, 0] rfl ?_
    exact uX5_constant_121 hq
  · replace hq := hq.2 c1
    refine x_aload_n 3 dX5_constant_95 rfl ?_
    obtain ⟨g10, hq⟩ := hq
    refine x_getN (v := rv (fR h x2 3585)) gfX5_237 dX5_constant_96 g10 rfl ?_
    refine x_iconst (v := 0) dX5_constant_99 (by decide) ?_
    obtain ⟨g11, hq⟩ := hq
    obtain ⟨g12, g13, hq⟩ := hq
    refine x_callV (Yc := YJ5_charAt) (as := [.int 0]) (st := [rv x0]) q789 mvJ5_charAt g11 rfl dX5_constant_100 (xle (xal1 (rv_cat _) (xal1 rfl xal0)) (by decide)) (xfr g12) (xlo (xsw1 (rv_cat _) xsw0) (by decide) g13) (xKi hq (fun x15 h14 hq e16 => ?_) (fun _ _ q _ => q))
    replace hq := hq e16
    refine x_goto (tgt := 121) dX5_constant_103 (by decide) ?_
    refine xP.pick (lv' := [(0, rv x0), (1, rv x1), (2, rv x2), (3, .int s0)]) [1, 2, 3, 0] rfl ?_
    exact uX5_constant_121 hq
set_option maxRecDepth 100000 in
def bX5_constant (G : xG) (fr lo : Nat) (x0 : Nat) (x1 : Nat) (h : xH) (Q : Outcome → xH → Prop) : Prop := tg h x1 = 16 ∧ tg h (fR h x1 3841) = 15 ∧ ((¬ (fR h (fR h x1 3841) 3584) = (xGS G 2) → ((¬ (fR h (fR h x1 3841) 3584) = (xGS G 3) → ((¬ (fR h (fR h x1 3841) 3584) = (xGS G 4) → tg h x0 = 6 ∧ 1 ≤ fr ∧ 15 ≤ lo ∧ xRr G YX5_findKind (fr - 1) (lo - 15) [rv x0, rv x1, .int 0] h (fun x10 h9 => xext h h9 → tg h9 x10 = 9 ∧ (∀ h14 : xH, h14 = sR h9 x0 1296 (fR h9 x10 2050) → (∀ h18 : xH, h18 = sI h14 x0 1297 (fI h14 x10 2051) → (∀ h22 : xH, h22 = sD h18 x0 1298 (fD h18 x10 2055) → bX5_constant_193 G fr lo x0 x1 h22 Q)))) (fun r h2 => Q (.threw r) h2)) ∧ ((fR h (fR h x1 3841) 3584) = (xGS G 4) → tg h (fR h (fR h x1 3841) 3585) = 31 ∧ 1 ≤ fr ∧ 12 ≤ lo ∧ xRi G YJ5_length (fr - 1) (lo - 12) [rv (fR h (fR h x1 3841) 3585)] h (fun x28 h27 => xext h h27 → ((¬ x28 = 1 → bX5_constant_89 G fr lo x0 x1 (fR h x1 3841) 0 h27 Q) ∧ (x28 = 1 → bX5_constant_89 G fr lo x0 x1 (fR h x1 3841) 1 h27 Q))) (fun r h2 => Q (.threw r) h2)))) ∧ ((fR h (fR h x1 3841) 3584) = (xGS G 3) → tg h x0 = 6 ∧ (∀ h32 : xH, h32 = sR h x0 1296 (fR h x0 1283) → (∀ h36 : xH, h36 = sD h32 x0 1298 (fD h32 (fR h x1 3841) 3588) → bX5_constant_193 G fr lo x0 x1 h36 Q))))) ∧ ((fR h (fR h x1 3841) 3584) = (xGS G 2) → tg h x0 = 6 ∧ (∀ h39 : xH, h39 = sR h x0 1296 (fR h x0 1282) → (∀ h43 : xH, h43 = sI h39 x0 1297 (fI h39 (fR h x1 3841) 3587) → bX5_constant_193 G fr lo x0 x1 h43 Q))))
set_option maxRecDepth 100000 in
theorem uX5_constant {G : xG} {fr lo : Nat} {x0 : Nat} {x1 : Nat} {h : xH} {Q : Outcome → xH → Prop} (hq : bX5_constant G fr lo x0 x1 h Q) : xP G YX5_constant fr lo 0 [(0, rv x0), (1, rv x1)] [] h Q := by
  unfold bX5_constant at hq
  refine x_aload_n 1 dX5_constant_0 rfl ?_
  obtain ⟨g1, hq⟩ := hq
  refine x_getN (v := rv (fR h x1 3841)) gfX5_202 dX5_constant_1 g1 rfl ?_
  refine x_astore_n (lv' := [(2, rv (fR h x1 3841)), (0, rv x0), (1, rv x1)]) dX5_constant_4 (by decide) (by first | rfl | (simp [rv_cat, Value.category]; done) | (simp [rv_cat, Value.category]; decide)) ?_
  refine x_aload_n 0 dX5_constant_5 rfl ?_
  obtain ⟨g2, hq⟩ := hq
  refine x_getN (v := rv (fR h (fR h x1 3841) 3584)) gfX5_205 dX5_constant_6 g2 rfl ?_
  refine x_gets (v := rv (xGS G 2)) 2 rfl q2233 (by simp [xsv]) dX5_constant_9 ?_
  refine x_acmp_ne (tgt := 34) dX5_constant_12 (by decide) (fun c3 => ?_) (fun c3 => ?_)
  · replace hq := hq.1 c3
    refine x_aload_n 0 dX5_constant_34 rfl ?_
    refine x_getN (v := rv (fR h (fR h x1 3841) 3584)) gfX5_205 dX5_constant_35 g2 rfl ?_
    refine x_gets (v := rv (xGS G 3)) 3 rfl q2234 (by simp [xsv]) dX5_constant_38 ?_
    refine x_acmp_ne (tgt := 63) dX5_constant_41 (by decide) (fun c4 => ?_) (fun c4 => ?_)
    · replace hq := hq.1 c4
      refine x_aload_n 0 dX5_constant_63 rfl ?_
      refine x_getN (v := rv (fR h (fR h x1 3841) 3584)) gfX5_205 dX5_constant_64 g2 rfl ?_
      refine x_gets (v := rv (xGS G 4)) 4 rfl q2235 (by simp [xsv]) dX5_constant_67 ?_
      refine x_acmp_ne (tgt := 162) dX5_constant_70 (by decide) (fun c5 => ?_) (fun c5 => ?_)
      · replace hq := hq.1 c5
        refine x_aload_n 1 dX5_constant_162 rfl ?_
        refine x_aload_n 2 dX5_constant_163 rfl ?_
        refine x_iconst (v := 0) dX5_constant_164 (by decide) ?_
        obtain ⟨g6, hq⟩ := hq
        obtain ⟨g7, g8, hq⟩ := hq
        refine x_callV (Yc := YX5_findKind) (as := [rv x1, .int 0]) (st := []) q2242 mvX5_findKind g6 rfl dX5_constant_165 (xle (xal1 (rv_cat _) (xal1 (rv_cat _) (xal1 rfl xal0))) (by decide)) (xfr g7) (xlo xsw0 (by decide) g8) (xKr hq (fun x10 h9 hq e11 => ?_) (fun _ _ q _ => q))
        replace hq := hq e11
        refine x_astore_n (lv' := [(3, rv x10), (2, rv (fR h x1 3841)), (0, rv x0), (1, rv x1)]) dX5_constant_168 (by decide) (by first | rfl | (simp [rv_cat, Value.category]; done) | (simp [rv_cat, Value.category]; decide)) ?_
        refine x_aload_n 2 dX5_constant_169 rfl ?_
        refine x_aload_n 0 dX5_constant_170 rfl ?_
        obtain ⟨g12, hq⟩ := hq
        refine x_getN (v := rv (fR h9 x10 2050)) gfX5_249 dX5_constant_171 g12 rfl ?_
        have t13 : tg h9 x0 = 6 := e11.tg g6 (by decide)
        obtain ⟨h14, e15⟩ : ∃ y, y = sR h9 x0 1296 (fR h9 x10 2050) := ⟨_, rfl⟩
        replace hq := hq h14 e15
        refine x_putR fdX5_216 xty_O dX5_constant_174 t13 (Or.inl (by rw [t13]; rfl)) rfl e15 ?_
        refine x_aload_n 2 dX5_constant_177 rfl ?_
        refine x_aload_n 0 dX5_constant_178 rfl ?_
        have t16 : tg h14 x10 = 9 := by rw [e15]; exact g12
        refine x_getN (v := .int (fI h14 x10 2051)) gfX5_112 dX5_constant_179 t16 rfl ?_
        have t17 : tg h14 x0 = 6 := by rw [e15]; exact t13
        obtain ⟨h18, e19⟩ : ∃ y, y = sI h14 x0 1297 (fI h14 x10 2051) := ⟨_, rfl⟩
        replace hq := hq h18 e19
        refine x_putI fdX5_222 xty_I1 dX5_constant_182 t17 (Or.inl (by rw [t17]; rfl)) xnI rfl e19 ?_
        refine x_aload_n 2 dX5_constant_185 rfl ?_
        refine x_aload_n 0 dX5_constant_186 rfl ?_
        have t20 : tg h18 x10 = 9 := by rw [e19]; exact t16
        refine x_getN (v := .double (fD h18 x10 2055)) gfX5_250 dX5_constant_187 t20 rfl ?_
        have t21 : tg h18 x0 = 6 := by rw [e19]; exact t17
        obtain ⟨h22, e23⟩ : ∃ y, y = sD h18 x0 1298 (fD h18 x10 2055) := ⟨_, rfl⟩
        replace hq := hq h22 e23
        refine x_putD fdX5_231 dX5_constant_190 t21 (Or.inl (by rw [t21]; rfl)) rfl e23 ?_
        refine xP.pick (lv' := [(0, rv x0), (1, rv x1)]) [2, 3] rfl ?_
        exact uX5_constant_193 hq
      · replace hq := hq.2 c5
        refine x_aload_n 0 dX5_constant_73 rfl ?_
        refine x_getN (v := rv (fR h (fR h x1 3841) 3585)) gfX5_237 dX5_constant_74 g2 rfl ?_
        obtain ⟨g24, hq⟩ := hq
        obtain ⟨g25, g26, hq⟩ := hq
        refine x_callV (Yc := YJ5_length) (as := []) (st := []) q780 mvJ5_length g24 rfl dX5_constant_77 (xle (xal1 (rv_cat _) xal0) (by decide)) (xfr g25) (xlo xsw0 (by decide) g26) (xKi hq (fun x28 h27 hq e29 => ?_) (fun _ _ q _ => q))
        replace hq := hq e29
        refine x_iconst (v := 1) dX5_constant_80 (by decide) ?_
        refine x_icmp_ne (tgt := 88) dX5_constant_81 (by decide) (fun c30 => ?_) (fun c30 => ?_)
        · replace hq := hq.1 c30
          refine x_iconst (v := 0) dX5_constant_88 (by decide) ?_
          refine xP.pick (lv' := [(0, rv x0), (1, rv x1), (2, rv (fR h x1 3841))]) [1, 2, 0] rfl ?_
          exact uX5_constant_89 hq
        · replace hq := hq.2 c30
          refine x_iconst (v := 1) dX5_constant_84 (by decide) ?_
          refine x_goto (tgt := 89) dX5_constant_85 (by decide) ?_
          refine xP.pick (lv' := [(0, rv x0), (1, rv x1), (2, rv (fR h x1 3841))]) [1, 2, 0] rfl ?_
          exact uX5_constant_89 hq
    · replace hq := hq.2 c4
      refine x_aload_n 1 dX5_constant_44 rfl ?_
      refine x_aload_n 1 dX5_constant_45 rfl ?_
      obtain ⟨g31, hq⟩ := hq
      refine x_get (v := rv (fR h x0 1283)) fdX5_26 dX5_constant_46 g31 rfl ?_
      obtain ⟨h32, e33⟩ : ∃ y, y = sR h x0 1296 (fR h x0 1283) := ⟨_, rfl⟩
      replace hq := hq h32 e33
      refine x_putR fdX5_216 xty_O dX5_constant_49 g31 (Or.inl (by rw [g31]; rfl)) rfl e33 ?_
      refine x_aload_n 1 dX5_constant_52 rfl ?_
      refine x_aload_n 0 dX5_constant_53 rfl ?_
      have t34 : tg h32 (fR h x1 3841) = 15 := by rw [e33]; exact g2
      refine x_getN (v := .double (fD h32 (fR h x1 3841) 3588)) gfX5_228 dX5_constant_54 t34 rfl ?_
      have t35 : tg h32 x0 = 6 := by rw [e33]; exact g31
      obtain ⟨h36, e37⟩ : ∃ y, y = sD h32 x0 1298 (fD h32 (fR h x1 3841) 3588) := ⟨_, rfl⟩
      replace hq := hq h36 e37
      refine x_putD fdX5_231 dX5_constant_57 t35 (Or.inl (by rw [t35]; rfl)) rfl e37 ?_
      refine x_goto (tgt := 193) dX5_constant_60 (by decide) ?_
      refine xP.pick (lv' := [(0, rv x0), (1, rv x1)]) [1, 2] rfl ?_
      exact uX5_constant_193 hq
  · replace hq := hq.2 c3
    refine x_aload_n 1 dX5_constant_15 rfl ?_
    refine x_aload_n 1 dX5_constant_16 rfl ?_
    obtain ⟨g38, hq⟩ := hq
    refine x_get (v := rv (fR h x0 1282)) fdX5_20 dX5_constant_17 g38 rfl ?_
    obtain ⟨h39, e40⟩ : ∃ y, y = sR h x0 1296 (fR h x0 1282) := ⟨_, rfl⟩
    replace hq := hq h39 e40
    refine x_putR fdX5_216 xty_O dX5_constant_20 g38 (Or.inl (by rw [g38]; rfl)) rfl e40 ?_
    refine x_aload_n 1 dX5_constant_23 rfl ?_
    refine x_aload_n 0 dX5_constant_24 rfl ?_
    have t41 : tg h39 (fR h x1 3841) = 15 := by rw [e40]; exact g2
    refine x_getN (v := .int (fI h39 (fR h x1 3841) 3587)) gfX5_219 dX5_constant_25 t41 rfl ?_
    have t42 : tg h39 x0 = 6 := by rw [e40]; exact g38
    obtain ⟨h43, e44⟩ : ∃ y, y = sI h39 x0 1297 (fI h39 (fR h x1 3841) 3587) := ⟨_, rfl⟩
    replace hq := hq h43 e44
    refine x_putI fdX5_222 xty_I1 dX5_constant_28 t42 (Or.inl (by rw [t42]; rfl)) xnI rfl e44 ?_
    refine x_goto (tgt := 193) dX5_constant_31 (by decide) ?_
    refine xP.pick (lv' := [(0, rv x0), (1, rv x1)]) [1, 2] rfl ?_
    exact uX5_constant_193 hq
theorem rX5_constant {G : xG} {fr lo : Nat} {x0 : Nat} {x1 : Nat} {h : xH} {Q : Outcome → xH → Prop} (hq : bX5_constant G fr lo x0 x1 h Q) : xR G YX5_constant fr lo [rv x0, rv x1] h Q := by
  show xP _ _ _ _ _ (lv_args 0 _) _ _ _
  rw [show lv_args 0 [rv x0, rv x1] = [(0, rv x0), (1, rv x1)] from (xla1 (rv_cat _) (xla1 (rv_cat _) xla0))]
  exact uX5_constant hq
set_option maxRecDepth 100000 in
theorem dX5_findKind_0 : decode cX5_findKind 0 = .ok (.aload_n 0, 1) := by decide +kernel
set_option maxRecDepth 100000 in
theorem dX5_findKind_1 : decode cX5_findKind 1 = .ok (.aload_n 1, 1) := by decide +kernel
set_option maxRecDepth 100000 in
theorem dX5_findKind_2 : decode cX5_findKind 2 = .ok (.invokevirtual 195, 3) := by decide +kernel
set_option maxRecDepth 100000 in
theorem dX5_findKind_5 : decode cX5_findKind 5 = .ok (.astore_n 3, 1) := by decide +kernel
set_option maxRecDepth 100000 in
theorem dX5_findKind_6 : decode cX5_findKind 6 = .ok (.aload_n 3, 1) := by decide +kernel
set_option maxRecDepth 100000 in
theorem dX5_findKind_7 : decode cX5_findKind 7 = .ok (.getfield 199, 3) := by decide +kernel
set_option maxRecDepth 100000 in
theorem dX5_findKind_10 : decode cX5_findKind 10 = .ok (.iload_n 2, 1) := by decide +kernel
set_option maxRecDepth 100000 in
theorem dX5_findKind_11 : decode cX5_findKind 11 = .ok (.if_icmp .eq 14, 3) := by decide +kernel
set_option maxRecDepth 100000 in
theorem dX5_findKind_14 : decode cX5_findKind 14 = .ok (.aload_n 0, 1) := by decide +kernel
set_option maxRecDepth 100000 in
theorem dX5_findKind_15 : decode cX5_findKind 15 = .ok (.bipush 6, 2) := by decide +kernel
set_option maxRecDepth 100000 in
theorem dX5_findKind_17 : decode cX5_findKind 17 = .ok (.aload_n 1, 1) := by decide +kernel
set_option maxRecDepth 100000 in
theorem dX5_findKind_18 : decode cX5_findKind 18 = .ok (.invokevirtual 192, 3) := by decide +kernel
set_option maxRecDepth 100000 in
theorem dX5_findKind_21 : decode cX5_findKind 21 = .ok (.invokevirtual 163, 3) := by decide +kernel
set_option maxRecDepth 100000 in
theorem dX5_findKind_24 : decode cX5_findKind 24 = .ok (.athrow, 1) := by decide +kernel
set_option maxRecDepth 100000 in
theorem dX5_findKind_25 : decode cX5_findKind 25 = .ok (.aload_n 3, 1) := by decide +kernel
set_option maxRecDepth 100000 in
theorem dX5_findKind_26 : decode cX5_findKind 26 = .ok (.areturn, 1) := by decide +kernel
set_option maxRecDepth 100000 in
def bX5_findKind (G : xG) (fr lo : Nat) (x0 : Nat) (x1 : Nat) (x2 : Int32) (h : xH) (Q : Outcome → xH → Prop) : Prop := tg h x0 = 6 ∧ 1 ≤ fr ∧ 15 ≤ lo ∧ xRr G YX5_find (fr - 1) (lo - 15) [rv x0, rv x1] h (fun x5 h4 => xext h h4 → tg h4 x5 = 9 ∧ (((fI h4 x5 2048) = x2 → Q (.returned (some (rv x5))) h4) ∧ (¬ (fI h4 x5 2048) = x2 → tg h4 x1 = 16 ∧ 1 ≤ fr ∧ 14 ≤ lo ∧ xRi G YX15_place (fr - 1) (lo - 14) [rv x1] h4 (fun x13 h12 => xext h4 h12 → 1 ≤ fr ∧ 14 ≤ lo ∧ xRr G YX5_fault (fr - 1) (lo - 14) [rv x0, .int 6, .int x13] h12 (fun x20 h19 => xext h12 h19 → (∃ r22, x20 = r22 + 1 ∧ Q (.threw r22) h19)) (fun r h2 => Q (.threw r) h2)) (fun r h2 => Q (.threw r) h2)))) (fun r h2 => Q (.threw r) h2)
set_option maxRecDepth 100000 in
theorem uX5_findKind {G : xG} {fr lo : Nat} {x0 : Nat} {x1 : Nat} {x2 : Int32} {h : xH} {Q : Outcome → xH → Prop} (hq : bX5_findKind G fr lo x0 x1 x2 h Q) : xP G YX5_findKind fr lo 0 [(0, rv x0), (1, rv x1), (2, .int x2)] [] h Q := by
  unfold bX5_findKind at hq
  refine x_aload_n 0 dX5_findKind_0 rfl ?_
  refine x_aload_n 1 dX5_findKind_1 rfl ?_
  obtain ⟨g1, hq⟩ := hq
  obtain ⟨g2, g3, hq⟩ := hq
  refine x_callV (Yc := YX5_find) (as := [rv x1]) (st := []) q2246 mvX5_find g1 rfl dX5_findKind_2 (xle (xal1 (rv_cat _) (xal1 (rv_cat _) xal0)) (by decide)) (xfr g2) (xlo xsw0 (by decide) g3) (xKr hq (fun x5 h4 hq e6 => ?_) (fun _ _ q _ => q))
  replace hq := hq e6
  refine x_astore_n (lv' := [(3, rv x5), (0, rv x0), (1, rv x1), (2, .int x2)]) dX5_findKind_5 (by decide) rfl ?_
  refine x_aload_n 0 dX5_findKind_6 rfl ?_
  obtain ⟨g7, hq⟩ := hq
  refine x_getN (v := .int (fI h4 x5 2048)) gfX5_199 dX5_findKind_7 g7 rfl ?_
  refine x_iload_n 3 dX5_findKind_10 rfl ?_
  refine x_icmp_eq (tgt := 25) dX5_findKind_11 (by decide) (fun c8 => ?_) (fun c8 => ?_)
  · replace hq := hq.1 c8
    refine x_aload_n 0 dX5_findKind_25 rfl ?_
    exact x_aret rfl xty_O dX5_findKind_26 hq
  · replace hq := hq.2 c8
    refine x_aload_n 1 dX5_findKind_14 rfl ?_
    refine x_bipush (v := 6) dX5_findKind_15 (by decide) ?_
    refine x_aload_n 2 dX5_findKind_17 rfl ?_
    obtain ⟨g9, hq⟩ := hq
    obtain ⟨g10, g11, hq⟩ := hq
    refine x_callV (Yc := YX15_place) (as := []) (st := [.int 6, rv x0]) q2013 mvX15_place g9 rfl dX5_findKind_18 (xle (xal1 (rv_cat _) xal0) (by decide)) (xfr g10) (xlo (xsw1 rfl (xsw1 (rv_cat _) xsw0)) (by decide) g11) (xKi hq (fun x13 h12 hq e14 => ?_) (fun _ _ q _ => q))
    replace hq := hq e14
    have t15 : tg h4 x0 = 6 := e6.tg g1 (by decide)
    have t16 : tg h12 x0 = 6 := e14.tg t15 (by decide)
    obtain ⟨g17, g18, hq⟩ := hq
    refine x_callV (Yc := YX5_fault) (as := [.int 6, .int x13]) (st := []) q2087 mvX5_fault t16 rfl dX5_findKind_21 (xle (xal1 (rv_cat _) (xal1 rfl (xal1 rfl xal0))) (by decide)) (xfr g17) (xlo xsw0 (by decide) g18) (xKr hq (fun x20 h19 hq e21 => ?_) (fun _ _ q _ => q))
    replace hq := hq e21
    obtain ⟨r22, g23, hq⟩ := hq
    rw [g23]
    exact x_athrow dX5_findKind_24 hq
theorem rX5_findKind {G : xG} {fr lo : Nat} {x0 : Nat} {x1 : Nat} {x2 : Int32} {h : xH} {Q : Outcome → xH → Prop} (hq : bX5_findKind G fr lo x0 x1 x2 h Q) : xR G YX5_findKind fr lo [rv x0, rv x1, .int x2] h Q := by
  show xP _ _ _ _ _ (lv_args 0 _) _ _ _
  rw [show lv_args 0 [rv x0, rv x1, .int x2] = [(0, rv x0), (1, rv x1), (2, .int x2)] from (xla1 (rv_cat _) (xla1 (rv_cat _) (xla1 rfl xla0)))]
  exact uX5_findKind hq
set_option maxRecDepth 100000 in
theorem dX5_find_0 : decode cX5_find 0 = .ok (.aload_n 0, 1) := by decide +kernel
set_option maxRecDepth 100000 in
theorem dX5_find_1 : decode cX5_find 1 = .ok (.aconst_null, 1) := by decide +kernel
set_option maxRecDepth 100000 in
theorem dX5_find_2 : decode cX5_find 2 = .ok (.putfield 166, 3) := by decide +kernel
set_option maxRecDepth 100000 in
theorem dX5_find_5 : decode cX5_find 5 = .ok (.aload_n 0, 1) := by decide +kernel
set_option maxRecDepth 100000 in
theorem dX5_find_6 : decode cX5_find 6 = .ok (.getfield 73, 3) := by decide +kernel
set_option maxRecDepth 100000 in
theorem dX5_find_9 : decode cX5_find 9 = .ok (.astore_n 2, 1) := by decide +kernel
set_option maxRecDepth 100000 in
theorem dX5_find_10 : decode cX5_find 10 = .ok (.aload_n 2, 1) := by decide +kernel
set_option maxRecDepth 100000 in
theorem dX5_find_11 : decode cX5_find 11 = .ok (.ifnull 80, 3) := by decide +kernel
set_option maxRecDepth 100000 in
theorem dX5_find_14 : decode cX5_find 14 = .ok (.aload_n 2, 1) := by decide +kernel
set_option maxRecDepth 100000 in
theorem dX5_find_15 : decode cX5_find 15 = .ok (.getfield 170, 3) := by decide +kernel
set_option maxRecDepth 100000 in
theorem dX5_find_18 : decode cX5_find 18 = .ok (.ifnull 50, 3) := by decide +kernel
set_option maxRecDepth 100000 in
theorem dX5_find_21 : decode cX5_find 21 = .ok (.aload_n 0, 1) := by decide +kernel
set_option maxRecDepth 100000 in
theorem dX5_find_22 : decode cX5_find 22 = .ok (.aload_n 2, 1) := by decide +kernel
set_option maxRecDepth 100000 in
theorem dX5_find_23 : decode cX5_find 23 = .ok (.getfield 170, 3) := by decide +kernel
set_option maxRecDepth 100000 in
theorem dX5_find_26 : decode cX5_find 26 = .ok (.aload_n 1, 1) := by decide +kernel
set_option maxRecDepth 100000 in
theorem dX5_find_27 : decode cX5_find 27 = .ok (.invokevirtual 173, 3) := by decide +kernel
set_option maxRecDepth 100000 in
theorem dX5_find_30 : decode cX5_find 30 = .ok (.invokevirtual 177, 3) := by decide +kernel
set_option maxRecDepth 100000 in
theorem dX5_find_33 : decode cX5_find 33 = .ok (.putfield 166, 3) := by decide +kernel
set_option maxRecDepth 100000 in
theorem dX5_find_36 : decode cX5_find 36 = .ok (.aload_n 0, 1) := by decide +kernel
set_option maxRecDepth 100000 in
theorem dX5_find_37 : decode cX5_find 37 = .ok (.aload_n 2, 1) := by decide +kernel
set_option maxRecDepth 100000 in
theorem dX5_find_38 : decode cX5_find 38 = .ok (.putfield 181, 3) := by decide +kernel
set_option maxRecDepth 100000 in
theorem dX5_find_41 : decode cX5_find 41 = .ok (.aload_n 0, 1) := by decide +kernel
set_option maxRecDepth 100000 in
theorem dX5_find_42 : decode cX5_find 42 = .ok (.getfield 166, 3) := by decide +kernel
set_option maxRecDepth 100000 in
theorem dX5_find_45 : decode cX5_find 45 = .ok (.ifnull 38, 3) := by decide +kernel
set_option maxRecDepth 100000 in
theorem dX5_find_48 : decode cX5_find 48 = .ok (.new 103, 3) := by decide +kernel
set_option maxRecDepth 100000 in
theorem dX5_find_51 : decode cX5_find 51 = .ok (.dup, 1) := by decide +kernel
set_option maxRecDepth 100000 in
theorem dX5_find_52 : decode cX5_find 52 = .ok (.iconst 5, 1) := by decide +kernel
set_option maxRecDepth 100000 in
theorem dX5_find_53 : decode cX5_find 53 = .ok (.aload_n 1, 1) := by decide +kernel
set_option maxRecDepth 100000 in
theorem dX5_find_54 : decode cX5_find 54 = .ok (.invokevirtual 173, 3) := by decide +kernel
set_option maxRecDepth 100000 in
theorem dX5_find_57 : decode cX5_find 57 = .ok (.aload_n 0, 1) := by decide +kernel
set_option maxRecDepth 100000 in
theorem dX5_find_58 : decode cX5_find 58 = .ok (.getfield 166, 3) := by decide +kernel
set_option maxRecDepth 100000 in
theorem dX5_find_61 : decode cX5_find 61 = .ok (.getfield 184, 3) := by decide +kernel
set_option maxRecDepth 100000 in
theorem dX5_find_64 : decode cX5_find 64 = .ok (.invokespecial 109, 3) := by decide +kernel
set_option maxRecDepth 100000 in
theorem dX5_find_67 : decode cX5_find 67 = .ok (.areturn, 1) := by decide +kernel
set_option maxRecDepth 100000 in
theorem dX5_find_68 : decode cX5_find 68 = .ok (.aload_n 2, 1) := by decide +kernel
set_option maxRecDepth 100000 in
theorem dX5_find_69 : decode cX5_find 69 = .ok (.aload_n 1, 1) := by decide +kernel
set_option maxRecDepth 100000 in
theorem dX5_find_70 : decode cX5_find 70 = .ok (.invokevirtual 173, 3) := by decide +kernel
set_option maxRecDepth 100000 in
theorem dX5_find_73 : decode cX5_find 73 = .ok (.invokevirtual 159, 3) := by decide +kernel
set_option maxRecDepth 100000 in
theorem dX5_find_76 : decode cX5_find 76 = .ok (.astore_n 3, 1) := by decide +kernel
set_option maxRecDepth 100000 in
theorem dX5_find_77 : decode cX5_find 77 = .ok (.aload_n 3, 1) := by decide +kernel
set_option maxRecDepth 100000 in
theorem dX5_find_78 : decode cX5_find 78 = .ok (.ifnull 5, 3) := by decide +kernel
set_option maxRecDepth 100000 in
theorem dX5_find_81 : decode cX5_find 81 = .ok (.aload_n 3, 1) := by decide +kernel
set_option maxRecDepth 100000 in
theorem dX5_find_82 : decode cX5_find 82 = .ok (.areturn, 1) := by decide +kernel
set_option maxRecDepth 100000 in
theorem dX5_find_83 : decode cX5_find 83 = .ok (.aload_n 2, 1) := by decide +kernel
set_option maxRecDepth 100000 in
theorem dX5_find_84 : decode cX5_find 84 = .ok (.getfield 189, 3) := by decide +kernel
set_option maxRecDepth 100000 in
theorem dX5_find_87 : decode cX5_find 87 = .ok (.astore_n 2, 1) := by decide +kernel
set_option maxRecDepth 100000 in
theorem dX5_find_88 : decode cX5_find 88 = .ok (.goto (-78), 3) := by decide +kernel
set_option maxRecDepth 100000 in
theorem dX5_find_91 : decode cX5_find 91 = .ok (.aload_n 0, 1) := by decide +kernel
set_option maxRecDepth 100000 in
theorem dX5_find_92 : decode cX5_find 92 = .ok (.iconst 4, 1) := by decide +kernel
set_option maxRecDepth 100000 in
theorem dX5_find_93 : decode cX5_find 93 = .ok (.aload_n 1, 1) := by decide +kernel
set_option maxRecDepth 100000 in
theorem dX5_find_94 : decode cX5_find 94 = .ok (.invokevirtual 192, 3) := by decide +kernel
set_option maxRecDepth 100000 in
theorem dX5_find_97 : decode cX5_find 97 = .ok (.invokevirtual 163, 3) := by decide +kernel
set_option maxRecDepth 100000 in
theorem dX5_find_100 : decode cX5_find 100 = .ok (.athrow, 1) := by decide +kernel
def lX5_find_10 (G : xG) (fr lo : Nat) (x0 : Nat) (x1 : Nat) (x2 : Nat) (h : xH) (Q : Outcome → xH → Prop) : Prop := xP G YX5_find fr lo 10 [(0, rv x0), (1, rv x1), (2, rv x2)] [] h Q
set_option maxRecDepth 100000 in
def bX5_find_83 (G : xG) (fr lo : Nat) (x0 : Nat) (x1 : Nat) (x2 : Nat) (h : xH) (Q : Outcome → xH → Prop) : Prop := tg h x2 = 8 ∧ lX5_find_10 G fr lo x0 x1 (fR h x2 1793) h Q
set_option maxRecDepth 100000 in
theorem uX5_find_83 {G : xG} {fr lo : Nat} {x0 : Nat} {x1 : Nat} {x2 : Nat} {h : xH} {Q : Outcome → xH → Prop} (hq : bX5_find_83 G fr lo x0 x1 x2 h Q) : xP G YX5_find fr lo 83 [(0, rv x0), (1, rv x1), (2, rv x2)] [] h Q := by
  unfold bX5_find_83 at hq
  refine x_aload_n 2 dX5_find_83 rfl ?_
  obtain ⟨g1, hq⟩ := hq
  refine x_getN (v := rv (fR h x2 1793)) gfX5_189 dX5_find_84 g1 rfl ?_
  refine x_astore_n (lv' := [(2, rv (fR h x2 1793)), (0, rv x0), (1, rv x1)]) dX5_find_87 (by decide) (by first | rfl | (simp [rv_cat, Value.category]; done) | (simp [rv_cat, Value.category]; decide)) ?_
  refine x_goto (tgt := 10) dX5_find_88 (by decide) ?_
  refine xP.pick (lv' := [(0, rv x0), (1, rv x1), (2, rv (fR h x2 1793))]) [1, 2, 0] rfl ?_
  exact hq
set_option maxRecDepth 100000 in
def bX5_find_10 (G : xG) (fr lo : Nat) (x0 : Nat) (x1 : Nat) (x2 : Nat) (h : xH) (Q : Outcome → xH → Prop) : Prop := ((x2 = 0 → tg h x1 = 16 ∧ 1 ≤ fr ∧ 14 ≤ lo ∧ xRi G YX15_place (fr - 1) (lo - 14) [rv x1] h (fun x6 h5 => xext h h5 → tg h5 x0 = 6 ∧ 1 ≤ fr ∧ 14 ≤ lo ∧ xRr G YX5_fault (fr - 1) (lo - 14) [rv x0, .int 4, .int x6] h5 (fun x12 h11 => xext h5 h11 → (∃ r14, x12 = r14 + 1 ∧ Q (.threw r14) h11)) (fun r h2 => Q (.threw r) h2)) (fun r h2 => Q (.threw r) h2)) ∧ (¬ x2 = 0 → tg h x2 = 8 ∧ (((fR h x2 1794) = 0 → tg h x1 = 16 ∧ 1 ≤ fr ∧ 13 ≤ lo ∧ xRr G YX15_text (fr - 1) (lo - 13) [rv x1] h (fun x22 h21 => xext h h21 → 1 ≤ fr ∧ 14 ≤ lo ∧ xRr G YX7_own (fr - 1) (lo - 14) [rv x2, rv x22] h21 (fun x28 h27 => xext h21 h27 → ((x28 = 0 → bX5_find_83 G fr lo x0 x1 x2 h27 Q) ∧ (¬ x28 = 0 → Q (.returned (some (rv x28))) h27))) (fun r h2 => Q (.threw r) h2)) (fun r h2 => Q (.threw r) h2)) ∧ (¬ (fR h x2 1794) = 0 → tg h x1 = 16 ∧ 1 ≤ fr ∧ 14 ≤ lo ∧ xRr G YX15_text (fr - 1) (lo - 14) [rv x1] h (fun x35 h34 => xext h h34 → tg h34 (fR h x2 1794) = 7 ∧ 1 ≤ fr ∧ 15 ≤ lo ∧ xRr G YX6_field (fr - 1) (lo - 15) [rv (fR h x2 1794), rv x35] h34 (fun x41 h40 => xext h34 h40 → tg h40 x0 = 6 ∧ (∀ h44 : xH, h44 = sR h40 x0 1299 x41 → (∀ h47 : xH, h47 = sR h44 x0 1300 x2 → (((fR h47 x0 1299) = 0 → bX5_find_83 G fr lo x0 x1 x2 h47 Q) ∧ (¬ (fR h47 x0 1299) = 0 → nx h47 + 1 ≤ xGN G ∧ us h47 + 12 ≤ xGU G ∧ (∀ (a53 : Nat) (h54 : xH), a53 = nx h47 + 1 → h54 = nO h47 9 12 → xfresh h47 a53 → 1 ≤ fr ∧ 15 ≤ lo ∧ xRr G YX15_text (fr - 1) (lo - 15) [rv x1] h54 (fun x67 h66 => xext h54 h66 → tg h66 (fR h66 x0 1299) = 21 ∧ 1 ≤ fr ∧ 16 ≤ lo ∧ xRv G YX8_init (fr - 1) (lo - 16) [rv a53, .int 5, rv x67, rv (fR h66 (fR h66 x0 1299) 5121)] h66 (fun h75 => xext h66 h75 → Q (.returned (some (rv a53))) h75) (fun r h2 => Q (.threw r) h2)) (fun r h2 => Q (.threw r) h2))))))) (fun r h2 => Q (.threw r) h2)) (fun r h2 => Q (.threw r) h2)))))
set_option maxRecDepth 100000 in
theorem uX5_find_10 {G : xG} {fr lo : Nat} {x0 : Nat} {x1 : Nat} {x2 : Nat} {h : xH} {Q : Outcome → xH → Prop} (hq : bX5_find_10 G fr lo x0 x1 x2 h Q) : xP G YX5_find fr lo 10 [(0, rv x0), (1, rv x1), (2, rv x2)] [] h Q := by
  unfold bX5_find_10 at hq
  refine x_aload_n 2 dX5_find_10 rfl ?_
  refine x_ifnull (tgt := 91) dX5_find_11 (by decide) (fun c1 => ?_) (fun c1 => ?_)
  · replace hq := hq.1 c1
    refine x_aload_n 0 dX5_find_91 rfl ?_
    refine x_iconst (v := 4) dX5_find_92 (by decide) ?_
    refine x_aload_n 1 dX5_find_93 rfl ?_
    obtain ⟨g2, hq⟩ := hq
    obtain ⟨g3, g4, hq⟩ := hq
    refine x_callV (Yc := YX15_place) (as := []) (st := [.int 4, rv x0]) q2013 mvX15_place g2 rfl dX5_find_94 (xle (xal1 (rv_cat _) xal0) (by decide)) (xfr g3) (xlo (xsw1 rfl (xsw1 (rv_cat _) xsw0)) (by decide) g4) (xKi hq (fun x6 h5 hq e7 => ?_) (fun _ _ q _ => q))
    replace hq := hq e7
    obtain ⟨g8, hq⟩ := hq
    obtain ⟨g9, g10, hq⟩ := hq
    refine x_callV (Yc := YX5_fault) (as := [.int 4, .int x6]) (st := []) q2087 mvX5_fault g8 rfl dX5_find_97 (xle (xal1 (rv_cat _) (xal1 rfl (xal1 rfl xal0))) (by decide)) (xfr g9) (xlo xsw0 (by decide) g10) (xKr hq (fun x12 h11 hq e13 => ?_) (fun _ _ q _ => q))
    replace hq := hq e13
    obtain ⟨r14, g15, hq⟩ := hq
    rw [g15]
    exact x_athrow dX5_find_100 hq
  · replace hq := hq.2 c1
    refine x_aload_n 2 dX5_find_14 rfl ?_
    obtain ⟨g16, hq⟩ := hq
    refine x_getN (v := rv (fR h x2 1794)) gfX5_170 dX5_find_15 g16 rfl ?_
    refine x_ifnull (tgt := 68) dX5_find_18 (by decide) (fun c17 => ?_) (fun c17 => ?_)
    · replace hq := hq.1 c17
      refine x_aload_n 2 dX5_find_68 rfl ?_
      refine x_aload_n 1 dX5_find_69 rfl ?_
      obtain ⟨g18, hq⟩ := hq
      obtain ⟨g19, g20, hq⟩ := hq
      refine x_callV (Yc := YX15_text) (as := []) (st := [rv x2]) q2009 mvX15_text g18 rfl dX5_find_70 (xle (xal1 (rv_cat _) xal0) (by decide)) (xfr g19) (xlo (xsw1 (rv_cat _) xsw0) (by decide) g20) (xKr hq (fun x22 h21 hq e23 => ?_) (fun _ _ q _ => q))
      replace hq := hq e23
      have t24 : tg h21 x2 = 8 := e23.tg g16 (by decide)
      obtain ⟨g25, g26, hq⟩ := hq
      refine x_callV (Yc := YX7_own) (as := [rv x22]) (st := []) q2107 mvX7_own t24 rfl dX5_find_73 (xle (xal1 (rv_cat _) (xal1 (rv_cat _) xal0)) (by decide)) (xfr g25) (xlo xsw0 (by decide) g26) (xKr hq (fun x28 h27 hq e29 => ?_) (fun _ _ q _ => q))
      replace hq := hq e29
      refine x_astore_n (lv' := [(3, rv x28), (0, rv x0), (1, rv x1), (2, rv x2)]) dX5_find_76 (by decide) (by first | rfl | (simp [rv_cat, Value.category]; done) | (simp [rv_cat, Value.category]; decide)) ?_
      refine x_aload_n 0 dX5_find_77 rfl ?_
      refine x_ifnull (tgt := 83) dX5_find_78 (by decide) (fun c30 => ?_) (fun c30 => ?_)
      · replace hq := hq.1 c30
        refine xP.pick (lv' := [(0, rv x0), (1, rv x1), (2, rv x2)]) [1, 2, 3] rfl ?_
        exact uX5_find_83 hq
      · replace hq := hq.2 c30
        refine x_aload_n 0 dX5_find_81 rfl ?_
        exact x_aret rfl xty_O dX5_find_82 hq
    · replace hq := hq.2 c17
      refine x_aload_n 0 dX5_find_21 rfl ?_
      refine x_aload_n 2 dX5_find_22 rfl ?_
      refine x_getN (v := rv (fR h x2 1794)) gfX5_170 dX5_find_23 g16 rfl ?_
      refine x_aload_n 1 dX5_find_26 rfl ?_
      obtain ⟨g31, hq⟩ := hq
      obtain ⟨g32, g33, hq⟩ := hq
      refine x_callV (Yc := YX15_text) (as := []) (st := [rv (fR h x2 1794), rv x0]) q2009 mvX15_text g31 rfl dX5_find_27 (xle (xal1 (rv_cat _) xal0) (by decide)) (xfr g32) (xlo (xsw1 (rv_cat _) (xsw1 (rv_cat _) xsw0)) (by decide) g33) (xKr hq (fun x35 h34 hq e36 => ?_) (fun _ _ q _ => q))
      replace hq := hq e36
      obtain ⟨g37, hq⟩ := hq
      obtain ⟨g38, g39, hq⟩ := hq
      refine x_callV (Yc := YX6_field) (as := [rv x35]) (st := [rv x0]) q2250 mvX6_field g37 rfl dX5_find_30 (xle (xal1 (rv_cat _) (xal1 (rv_cat _) xal0)) (by decide)) (xfr g38) (xlo (xsw1 (rv_cat _) xsw0) (by decide) g39) (xKr hq (fun x41 h40 hq e42 => ?_) (fun _ _ q _ => q))
      replace hq := hq e42
      obtain ⟨g43, hq⟩ := hq
      obtain ⟨h44, e45⟩ : ∃ y, y = sR h40 x0 1299 x41 := ⟨_, rfl⟩
      replace hq := hq h44 e45
      refine x_putR fdX5_166 xty_O dX5_find_33 g43 (Or.inl (by rw [g43]; rfl)) rfl e45 ?_
      refine x_aload_n 0 dX5_find_36 rfl ?_
      refine x_aload_n 2 dX5_find_37 rfl ?_
      have t46 : tg h44 x0 = 6 := by rw [e45]; exact g43
      obtain ⟨h47, e48⟩ : ∃ y, y = sR h44 x0 1300 x2 := ⟨_, rfl⟩
      replace hq := hq h47 e48
      refine x_putR fdX5_181 xty_O dX5_find_38 t46 (Or.inl (by rw [t46]; rfl)) rfl e48 ?_
      refine x_aload_n 0 dX5_find_41 rfl ?_
      have t49 : tg h47 x0 = 6 := by rw [e48]; exact t46
      refine x_get (v := rv (fR h47 x0 1299)) fdX5_166 dX5_find_42 t49 rfl ?_
      refine x_ifnull (tgt := 83) dX5_find_45 (by decide) (fun c50 => ?_) (fun c50 => ?_)
      · replace hq := hq.1 c50
        exact uX5_find_83 hq
      · replace hq := hq.2 c50
        obtain ⟨g51, g52, hq⟩ := hq
        obtain ⟨a53, e55⟩ : ∃ y, y = nx h47 + 1 := ⟨_, rfl⟩
        obtain ⟨h54, e56⟩ : ∃ y, y = nO h47 9 12 := ⟨_, rfl⟩
        refine x_new' cdX5_103 dX5_find_48 g51 g52 e55 e56 (fun f57 => ?_)
        replace hq := hq a53 h54 e55 e56 f57
        have t58 : tg h54 a53 = 9 := by rw [e56, e55]; exact tg_nO
        refine x_dup dX5_find_51 (rv_cat _) ?_
        refine x_iconst (v := 5) dX5_find_52 (by decide) ?_
        refine x_aload_n 1 dX5_find_53 rfl ?_
        have t59 : tg h34 x1 = 16 := e36.tg g31 (by decide)
        have t60 : tg h40 x1 = 16 := e42.tg t59 (by decide)
        have t61 : tg h44 x1 = 16 := by rw [e45]; exact t60
        have t62 : tg h47 x1 = 16 := by rw [e48]; exact t61
        have t63 : tg h54 x1 = 16 := by rw [e56]; exact tg_nO_ne e55 f57 t62 (by decide)
        obtain ⟨g64, g65, hq⟩ := hq
        refine x_callV (Yc := YX15_text) (as := []) (st := [.int 5, rv a53, rv a53]) q2009 mvX15_text t63 rfl dX5_find_54 (xle (xal1 (rv_cat _) xal0) (by decide)) (xfr g64) (xlo (xsw1 rfl (xsw1 (rv_cat _) (xsw1 (rv_cat _) xsw0))) (by decide) g65) (xKr hq (fun x67 h66 hq e68 => ?_) (fun _ _ q _ => q))
        replace hq := hq e68
        refine x_aload_n 0 dX5_find_57 rfl ?_
        have t69 : tg h54 x0 = 6 := by rw [e56]; exact tg_nO_ne e55 f57 t49 (by decide)
        have t70 : tg h66 x0 = 6 := e68.tg t69 (by decide)
        refine x_get (v := rv (fR h66 x0 1299)) fdX5_166 dX5_find_58 t70 rfl ?_
        obtain ⟨g71, hq⟩ := hq
        refine x_getN (v := rv (fR h66 (fR h66 x0 1299) 5121)) gfX5_184 dX5_find_61 g71 rfl ?_
        have t72 : tg h66 a53 = 9 := e68.tg t58 (by decide)
        obtain ⟨g73, g74, hq⟩ := hq
        refine x_callI (Yc := YX8_init) (as := [.int 5, rv x67, rv (fR h66 (fR h66 x0 1299) 5121)]) (st := [rv a53]) q961 miX8_init (by rw [t72]; decide) rfl dX5_find_64 (xle (xal1 (rv_cat _) (xal1 rfl (xal1 (rv_cat _) (xal1 (rv_cat _) xal0)))) (by decide)) (xfr g73) (xlo (xsw1 (rv_cat _) xsw0) (by decide) g74) (xKv hq (fun h75 hq e77 => ?_) (fun _ _ q _ => q))
        replace hq := hq e77
        exact x_aret rfl xty_O dX5_find_67 hq
set_option maxRecDepth 100000 in
def bX5_find (G : xG) (fr lo : Nat) (x0 : Nat) (x1 : Nat) (h : xH) (Q : Outcome → xH → Prop) : Prop := tg h x0 = 6 ∧ (∀ h2 : xH, h2 = sR h x0 1299 0 → lX5_find_10 G fr lo x0 x1 (fR h2 x0 1293) h2 Q)
set_option maxRecDepth 100000 in
theorem uX5_find {G : xG} {fr lo : Nat} {x0 : Nat} {x1 : Nat} {h : xH} {Q : Outcome → xH → Prop} (hq : bX5_find G fr lo x0 x1 h Q) : xP G YX5_find fr lo 0 [(0, rv x0), (1, rv x1)] [] h Q := by
  unfold bX5_find at hq
  refine x_aload_n 0 dX5_find_0 rfl ?_
  refine x_null dX5_find_1 ?_
  obtain ⟨g1, hq⟩ := hq
  obtain ⟨h2, e3⟩ : ∃ y, y = sR h x0 1299 0 := ⟨_, rfl⟩
  replace hq := hq h2 e3
  refine x_putR fdX5_166 xty_O dX5_find_2 g1 (Or.inl (by rw [g1]; rfl)) rfl e3 ?_
  refine x_aload_n 0 dX5_find_5 rfl ?_
  have t4 : tg h2 x0 = 6 := by rw [e3]; exact g1
  refine x_get (v := rv (fR h2 x0 1293)) fdX5_73 dX5_find_6 t4 rfl ?_
  refine x_astore_n (lv' := [(2, rv (fR h2 x0 1293)), (0, rv x0), (1, rv x1)]) dX5_find_9 (by decide) (by first | rfl | (simp [rv_cat, Value.category]; done) | (simp [rv_cat, Value.category]; decide)) ?_
  refine xP.pick (lv' := [(0, rv x0), (1, rv x1), (2, rv (fR h2 x0 1293))]) [1, 2, 0] rfl ?_
  exact hq
theorem rX5_find {G : xG} {fr lo : Nat} {x0 : Nat} {x1 : Nat} {h : xH} {Q : Outcome → xH → Prop} (hq : bX5_find G fr lo x0 x1 h Q) : xR G YX5_find fr lo [rv x0, rv x1] h Q := by
  show xP _ _ _ _ _ (lv_args 0 _) _ _ _
  rw [show lv_args 0 [rv x0, rv x1] = [(0, rv x0), (1, rv x1)] from (xla1 (rv_cat _) (xla1 (rv_cat _) xla0))]
  exact uX5_find hq
set_option maxRecDepth 100000 in
theorem dX5_types_0 : decode cX5_types 0 = .ok (.aload_n 2, 1) := by decide +kernel
set_option maxRecDepth 100000 in
theorem dX5_types_1 : decode cX5_types 1 = .ok (.getfield 115, 3) := by decide +kernel
set_option maxRecDepth 100000 in
theorem dX5_types_4 : decode cX5_types 4 = .ok (.invokevirtual 490, 3) := by decide +kernel
set_option maxRecDepth 100000 in
theorem dX5_types_7 : decode cX5_types 7 = .ok (.istore_n 3, 1) := by decide +kernel
set_option maxRecDepth 100000 in
theorem dX5_types_8 : decode cX5_types 8 = .ok (.aload_n 0, 1) := by decide +kernel
set_option maxRecDepth 100000 in
theorem dX5_types_9 : decode cX5_types 9 = .ok (.iconst 1, 1) := by decide +kernel
set_option maxRecDepth 100000 in
theorem dX5_types_10 : decode cX5_types 10 = .ok (.putfield 346, 3) := by decide +kernel
set_option maxRecDepth 100000 in
theorem dX5_types_13 : decode cX5_types 13 = .ok (.aload_n 1, 1) := by decide +kernel
set_option maxRecDepth 100000 in
theorem dX5_types_14 : decode cX5_types 14 = .ok (.getfield 251, 3) := by decide +kernel
set_option maxRecDepth 100000 in
theorem dX5_types_17 : decode cX5_types 17 = .ok (.astore 4, 2) := by decide +kernel
set_option maxRecDepth 100000 in
theorem dX5_types_19 : decode cX5_types 19 = .ok (.aload 4, 2) := by decide +kernel
set_option maxRecDepth 100000 in
theorem dX5_types_21 : decode cX5_types 21 = .ok (.ifnull 49, 3) := by decide +kernel
set_option maxRecDepth 100000 in
theorem dX5_types_24 : decode cX5_types 24 = .ok (.aload_n 0, 1) := by decide +kernel
set_option maxRecDepth 100000 in
theorem dX5_types_25 : decode cX5_types 25 = .ok (.aload 4, 2) := by decide +kernel
set_option maxRecDepth 100000 in
theorem dX5_types_27 : decode cX5_types 27 = .ok (.getfield 251, 3) := by decide +kernel
set_option maxRecDepth 100000 in
theorem dX5_types_30 : decode cX5_types 30 = .ok (.invokevirtual 283, 3) := by decide +kernel
set_option maxRecDepth 100000 in
theorem dX5_types_33 : decode cX5_types 33 = .ok (.astore 5, 2) := by decide +kernel
set_option maxRecDepth 100000 in
theorem dX5_types_35 : decode cX5_types 35 = .ok (.aload_n 0, 1) := by decide +kernel
set_option maxRecDepth 100000 in
theorem dX5_types_36 : decode cX5_types 36 = .ok (.aload_n 2, 1) := by decide +kernel
set_option maxRecDepth 100000 in
theorem dX5_types_37 : decode cX5_types 37 = .ok (.new 103, 3) := by decide +kernel
set_option maxRecDepth 100000 in
theorem dX5_types_40 : decode cX5_types 40 = .ok (.dup, 1) := by decide +kernel
set_option maxRecDepth 100000 in
theorem dX5_types_41 : decode cX5_types 41 = .ok (.iconst 1, 1) := by decide +kernel
set_option maxRecDepth 100000 in
theorem dX5_types_42 : decode cX5_types 42 = .ok (.aload 4, 2) := by decide +kernel
set_option maxRecDepth 100000 in
theorem dX5_types_44 : decode cX5_types 44 = .ok (.invokevirtual 173, 3) := by decide +kernel
set_option maxRecDepth 100000 in
theorem dX5_types_47 : decode cX5_types 47 = .ok (.aload 5, 2) := by decide +kernel
set_option maxRecDepth 100000 in
theorem dX5_types_49 : decode cX5_types 49 = .ok (.invokespecial 109, 3) := by decide +kernel
set_option maxRecDepth 100000 in
theorem dX5_types_52 : decode cX5_types 52 = .ok (.aload 4, 2) := by decide +kernel
set_option maxRecDepth 100000 in
theorem dX5_types_54 : decode cX5_types 54 = .ok (.invokevirtual 192, 3) := by decide +kernel
set_option maxRecDepth 100000 in
theorem dX5_types_57 : decode cX5_types 57 = .ok (.invokevirtual 303, 3) := by decide +kernel
set_option maxRecDepth 100000 in
theorem dX5_types_60 : decode cX5_types 60 = .ok (.aload 4, 2) := by decide +kernel
set_option maxRecDepth 100000 in
theorem dX5_types_62 : decode cX5_types 62 = .ok (.getfield 307, 3) := by decide +kernel
set_option maxRecDepth 100000 in
theorem dX5_types_65 : decode cX5_types 65 = .ok (.astore 4, 2) := by decide +kernel
set_option maxRecDepth 100000 in
theorem dX5_types_67 : decode cX5_types 67 = .ok (.goto (-48), 3) := by decide +kernel
set_option maxRecDepth 100000 in
theorem dX5_types_70 : decode cX5_types 70 = .ok (.aload_n 0, 1) := by decide +kernel
set_option maxRecDepth 100000 in
theorem dX5_types_71 : decode cX5_types 71 = .ok (.iconst 0, 1) := by decide +kernel
set_option maxRecDepth 100000 in
theorem dX5_types_72 : decode cX5_types 72 = .ok (.putfield 346, 3) := by decide +kernel
set_option maxRecDepth 100000 in
theorem dX5_types_75 : decode cX5_types 75 = .ok (.iconst 0, 1) := by decide +kernel
set_option maxRecDepth 100000 in
theorem dX5_types_76 : decode cX5_types 76 = .ok (.istore 4, 2) := by decide +kernel
set_option maxRecDepth 100000 in
theorem dX5_types_78 : decode cX5_types 78 = .ok (.iload 4, 2) := by decide +kernel
set_option maxRecDepth 100000 in
theorem dX5_types_80 : decode cX5_types 80 = .ok (.aload_n 0, 1) := by decide +kernel
set_option maxRecDepth 100000 in
theorem dX5_types_81 : decode cX5_types 81 = .ok (.getfield 51, 3) := by decide +kernel
set_option maxRecDepth 100000 in
theorem dX5_types_84 : decode cX5_types 84 = .ok (.invokevirtual 490, 3) := by decide +kernel
set_option maxRecDepth 100000 in
theorem dX5_types_87 : decode cX5_types 87 = .ok (.if_icmp .ge 143, 3) := by decide +kernel
set_option maxRecDepth 100000 in
theorem dX5_types_90 : decode cX5_types 90 = .ok (.aload_n 0, 1) := by decide +kernel
set_option maxRecDepth 100000 in
theorem dX5_types_91 : decode cX5_types 91 = .ok (.getfield 55, 3) := by decide +kernel
set_option maxRecDepth 100000 in
theorem dX5_types_94 : decode cX5_types 94 = .ok (.iload 4, 2) := by decide +kernel
set_option maxRecDepth 100000 in
theorem dX5_types_96 : decode cX5_types 96 = .ok (.invokevirtual 331, 3) := by decide +kernel
set_option maxRecDepth 100000 in
theorem dX5_types_99 : decode cX5_types 99 = .ok (.checkcast 174, 3) := by decide +kernel
set_option maxRecDepth 100000 in
theorem dX5_types_102 : decode cX5_types 102 = .ok (.astore 5, 2) := by decide +kernel
set_option maxRecDepth 100000 in
theorem dX5_types_104 : decode cX5_types 104 = .ok (.aconst_null, 1) := by decide +kernel
set_option maxRecDepth 100000 in
theorem dX5_types_105 : decode cX5_types 105 = .ok (.astore 6, 2) := by decide +kernel
set_option maxRecDepth 100000 in
theorem dX5_types_107 : decode cX5_types 107 = .ok (.iload_n 3, 1) := by decide +kernel
set_option maxRecDepth 100000 in
theorem dX5_types_108 : decode cX5_types 108 = .ok (.istore 7, 2) := by decide +kernel
set_option maxRecDepth 100000 in
theorem dX5_types_110 : decode cX5_types 110 = .ok (.iload 7, 2) := by decide +kernel
set_option maxRecDepth 100000 in
theorem dX5_types_112 : decode cX5_types 112 = .ok (.aload_n 2, 1) := by decide +kernel
set_option maxRecDepth 100000 in
theorem dX5_types_113 : decode cX5_types 113 = .ok (.getfield 115, 3) := by decide +kernel
set_option maxRecDepth 100000 in
theorem dX5_types_116 : decode cX5_types 116 = .ok (.invokevirtual 490, 3) := by decide +kernel
set_option maxRecDepth 100000 in
theorem dX5_types_119 : decode cX5_types 119 = .ok (.if_icmp .ge 71, 3) := by decide +kernel
set_option maxRecDepth 100000 in
theorem dX5_types_122 : decode cX5_types 122 = .ok (.aload_n 2, 1) := by decide +kernel
set_option maxRecDepth 100000 in
theorem dX5_types_123 : decode cX5_types 123 = .ok (.getfield 115, 3) := by decide +kernel
set_option maxRecDepth 100000 in
theorem dX5_types_126 : decode cX5_types 126 = .ok (.iload 7, 2) := by decide +kernel
set_option maxRecDepth 100000 in
theorem dX5_types_128 : decode cX5_types 128 = .ok (.invokevirtual 331, 3) := by decide +kernel
set_option maxRecDepth 100000 in
theorem dX5_types_131 : decode cX5_types 131 = .ok (.checkcast 103, 3) := by decide +kernel
set_option maxRecDepth 100000 in
theorem dX5_types_134 : decode cX5_types 134 = .ok (.getfield 199, 3) := by decide +kernel
set_option maxRecDepth 100000 in
theorem dX5_types_137 : decode cX5_types 137 = .ok (.iconst 1, 1) := by decide +kernel
set_option maxRecDepth 100000 in
theorem dX5_types_138 : decode cX5_types 138 = .ok (.if_icmp .ne 46, 3) := by decide +kernel
set_option maxRecDepth 100000 in
theorem dX5_types_141 : decode cX5_types 141 = .ok (.aload_n 2, 1) := by decide +kernel
set_option maxRecDepth 100000 in
theorem dX5_types_142 : decode cX5_types 142 = .ok (.getfield 115, 3) := by decide +kernel
set_option maxRecDepth 100000 in
theorem dX5_types_145 : decode cX5_types 145 = .ok (.iload 7, 2) := by decide +kernel
set_option maxRecDepth 100000 in
theorem dX5_types_147 : decode cX5_types 147 = .ok (.invokevirtual 331, 3) := by decide +kernel
set_option maxRecDepth 100000 in
theorem dX5_types_150 : decode cX5_types 150 = .ok (.checkcast 103, 3) := by decide +kernel
set_option maxRecDepth 100000 in
theorem dX5_types_153 : decode cX5_types 153 = .ok (.getfield 155, 3) := by decide +kernel
set_option maxRecDepth 100000 in
theorem dX5_types_156 : decode cX5_types 156 = .ok (.aload 5, 2) := by decide +kernel
set_option maxRecDepth 100000 in
theorem dX5_types_158 : decode cX5_types 158 = .ok (.invokevirtual 173, 3) := by decide +kernel
set_option maxRecDepth 100000 in
theorem dX5_types_161 : decode cX5_types 161 = .ok (.invokevirtual 261, 3) := by decide +kernel
set_option maxRecDepth 100000 in
theorem dX5_types_164 : decode cX5_types 164 = .ok (.ifCond .eq 20, 3) := by decide +kernel
set_option maxRecDepth 100000 in
theorem dX5_types_167 : decode cX5_types 167 = .ok (.aload_n 2, 1) := by decide +kernel
set_option maxRecDepth 100000 in
theorem dX5_types_168 : decode cX5_types 168 = .ok (.getfield 115, 3) := by decide +kernel
set_option maxRecDepth 100000 in
theorem dX5_types_171 : decode cX5_types 171 = .ok (.iload 7, 2) := by decide +kernel
set_option maxRecDepth 100000 in
theorem dX5_types_173 : decode cX5_types 173 = .ok (.invokevirtual 331, 3) := by decide +kernel
set_option maxRecDepth 100000 in
theorem dX5_types_176 : decode cX5_types 176 = .ok (.checkcast 103, 3) := by decide +kernel
set_option maxRecDepth 100000 in
theorem dX5_types_179 : decode cX5_types 179 = .ok (.getfield 249, 3) := by decide +kernel
set_option maxRecDepth 100000 in
theorem dX5_types_182 : decode cX5_types 182 = .ok (.astore 6, 2) := by decide +kernel
set_option maxRecDepth 100000 in
theorem dX5_types_184 : decode cX5_types 184 = .ok (.iinc 7 1, 3) := by decide +kernel
set_option maxRecDepth 100000 in
theorem dX5_types_187 : decode cX5_types 187 = .ok (.goto (-77), 3) := by decide +kernel
set_option maxRecDepth 100000 in
theorem dX5_types_190 : decode cX5_types 190 = .ok (.aload_n 0, 1) := by decide +kernel
set_option maxRecDepth 100000 in
theorem dX5_types_191 : decode cX5_types 191 = .ok (.aload_n 0, 1) := by decide +kernel
set_option maxRecDepth 100000 in
theorem dX5_types_192 : decode cX5_types 192 = .ok (.getfield 51, 3) := by decide +kernel
set_option maxRecDepth 100000 in
theorem dX5_types_195 : decode cX5_types 195 = .ok (.iload 4, 2) := by decide +kernel
set_option maxRecDepth 100000 in
theorem dX5_types_197 : decode cX5_types 197 = .ok (.invokevirtual 331, 3) := by decide +kernel
set_option maxRecDepth 100000 in
theorem dX5_types_200 : decode cX5_types 200 = .ok (.checkcast 9, 3) := by decide +kernel
set_option maxRecDepth 100000 in
theorem dX5_types_203 : decode cX5_types 203 = .ok (.aload 6, 2) := by decide +kernel
set_option maxRecDepth 100000 in
theorem dX5_types_205 : decode cX5_types 205 = .ok (.ifnull 8, 3) := by decide +kernel
set_option maxRecDepth 100000 in
theorem dX5_types_208 : decode cX5_types 208 = .ok (.aload 6, 2) := by decide +kernel
set_option maxRecDepth 100000 in
theorem dX5_types_210 : decode cX5_types 210 = .ok (.goto 9, 3) := by decide +kernel
set_option maxRecDepth 100000 in
theorem dX5_types_213 : decode cX5_types 213 = .ok (.aload_n 0, 1) := by decide +kernel
set_option maxRecDepth 100000 in
theorem dX5_types_214 : decode cX5_types 214 = .ok (.aload 5, 2) := by decide +kernel
set_option maxRecDepth 100000 in
theorem dX5_types_216 : decode cX5_types 216 = .ok (.invokevirtual 265, 3) := by decide +kernel
set_option maxRecDepth 100000 in
theorem dX5_types_219 : decode cX5_types 219 = .ok (.aload 5, 2) := by decide +kernel
set_option maxRecDepth 100000 in
theorem dX5_types_221 : decode cX5_types 221 = .ok (.invokevirtual 350, 3) := by decide +kernel
set_option maxRecDepth 100000 in
theorem dX5_types_224 : decode cX5_types 224 = .ok (.iinc 4 1, 3) := by decide +kernel
set_option maxRecDepth 100000 in
theorem dX5_types_227 : decode cX5_types 227 = .ok (.goto (-149), 3) := by decide +kernel
set_option maxRecDepth 100000 in
theorem dX5_types_230 : decode cX5_types 230 = .ok (.aload_n 0, 1) := by decide +kernel
set_option maxRecDepth 100000 in
theorem dX5_types_231 : decode cX5_types 231 = .ok (.getfield 51, 3) := by decide +kernel
set_option maxRecDepth 100000 in
theorem dX5_types_234 : decode cX5_types 234 = .ok (.invokevirtual 426, 3) := by decide +kernel
set_option maxRecDepth 100000 in
theorem dX5_types_237 : decode cX5_types 237 = .ok (.aload_n 0, 1) := by decide +kernel
set_option maxRecDepth 100000 in
theorem dX5_types_238 : decode cX5_types 238 = .ok (.getfield 55, 3) := by decide +kernel
set_option maxRecDepth 100000 in
theorem dX5_types_241 : decode cX5_types 241 = .ok (.invokevirtual 426, 3) := by decide +kernel
set_option maxRecDepth 100000 in
theorem dX5_types_244 : decode cX5_types 244 = .ok (.return_, 1) := by decide +kernel
def lX5_types_19 (G : xG) (fr lo : Nat) (x0 : Nat) (x2 : Nat) (x3 : Int32) (x4 : Nat) (h : xH) (Q : Outcome → xH → Prop) : Prop := xP G YX5_types fr lo 19 [(0, rv x0), (2, rv x2), (3, .int x3), (4, rv x4)] [] h Q
def lX5_types_78 (G : xG) (fr lo : Nat) (x0 : Nat) (x2 : Nat) (x3 : Int32) (x4 : Int32) (h : xH) (Q : Outcome → xH → Prop) : Prop := xP G YX5_types fr lo 78 [(0, rv x0), (2, rv x2), (3, .int x3), (4, .int x4)] [] h Q
def lX5_types_110 (G : xG) (fr lo : Nat) (x0 : Nat) (x2 : Nat) (x3 : Int32) (x4 : Int32) (x5 : Nat) (x6 : Nat) (x7 : Int32) (h : xH) (Q : Outcome → xH → Prop) : Prop := xP G YX5_types fr lo 110 [(0, rv x0), (2, rv x2), (3, .int x3), (4, .int x4), (5, rv x5), (6, rv x6), (7, .int x7)] [] h Q
set_option maxRecDepth 100000 in
def bX5_types_219 (G : xG) (fr lo : Nat) (x0 : Nat) (x2 : Nat) (x3 : Int32) (x4 : Int32) (x5 : Nat) (s0 : Nat) (s1 : Nat) (s2 : Nat) (h : xH) (Q : Outcome → xH → Prop) : Prop := tg h s2 = 6 ∧ 1 ≤ fr ∧ 15 ≤ lo ∧ xRv G YX5_pointsAt (fr - 1) (lo - 15) [rv s2, rv s1, rv s0, rv x5] h (fun h4 => xext h h4 → lX5_types_78 G fr lo x0 x2 x3 (x4 + 1) h4 Q) (fun r h2 => Q (.threw r) h2)
set_option maxRecDepth 100000 in
theorem uX5_types_219 {G : xG} {fr lo : Nat} {x0 : Nat} {x2 : Nat} {x3 : Int32} {x4 : Int32} {x5 : Nat} {s0 : Nat} {s1 : Nat} {s2 : Nat} {h : xH} {Q : Outcome → xH → Prop} (hq : bX5_types_219 G fr lo x0 x2 x3 x4 x5 s0 s1 s2 h Q) : xP G YX5_types fr lo 219 [(0, rv x0), (2, rv x2), (3, .int x3), (4, .int x4), (5, rv x5)] [rv s0, rv s1, rv s2] h Q := by
  unfold bX5_types_219 at hq
  refine x_aload 4 dX5_types_219 rfl ?_
  obtain ⟨g1, hq⟩ := hq
  obtain ⟨g2, g3, hq⟩ := hq
  refine x_callV (Yc := YX5_pointsAt) (as := [rv s1, rv s0, rv x5]) (st := []) q2422 mvX5_pointsAt g1 rfl dX5_types_221 (xle (xal1 (rv_cat _) (xal1 (rv_cat _) (xal1 (rv_cat _) (xal1 (rv_cat _) xal0)))) (by decide)) (xfr g2) (xlo xsw0 (by decide) g3) (xKv hq (fun h4 hq e6 => ?_) (fun _ _ q _ => q))
  replace hq := hq e6
  refine x_iinc (lv' := [(4, .int (x4 + 1)), (0, rv x0), (2, rv x2), (3, .int x3), (5, rv x5)]) 3 dX5_types_224 rfl (by decide) rfl ?_
  refine x_goto (tgt := 78) dX5_types_227 (by decide) ?_
  refine xP.pick (lv' := [(0, rv x0), (2, rv x2), (3, .int x3), (4, .int (x4 + 1))]) [1, 2, 3, 0] rfl ?_
  exact hq
set_option maxRecDepth 100000 in
def bX5_types_184 (G : xG) (fr lo : Nat) (x0 : Nat) (x2 : Nat) (x3 : Int32) (x4 : Int32) (x5 : Nat) (x6 : Nat) (x7 : Int32) (h : xH) (Q : Outcome → xH → Prop) : Prop := lX5_types_110 G fr lo x0 x2 x3 x4 x5 x6 (x7 + 1) h Q
set_option maxRecDepth 100000 in
theorem uX5_types_184 {G : xG} {fr lo : Nat} {x0 : Nat} {x2 : Nat} {x3 : Int32} {x4 : Int32} {x5 : Nat} {x6 : Nat} {x7 : Int32} {h : xH} {Q : Outcome → xH → Prop} (hq : bX5_types_184 G fr lo x0 x2 x3 x4 x5 x6 x7 h Q) : xP G YX5_types fr lo 184 [(0, rv x0), (2, rv x2), (3, .int x3), (4, .int x4), (5, rv x5), (6, rv x6), (7, .int x7)] [] h Q := by
  unfold bX5_types_184 at hq
  refine x_iinc (lv' := [(7, .int (x7 + 1)), (0, rv x0), (2, rv x2), (3, .int x3), (4, .int x4), (5, rv x5), (6, rv x6)]) 6 dX5_types_184 rfl (by decide) (by first | rfl | (simp [rv_cat, Value.category]; done) | (simp [rv_cat, Value.category]; decide)) ?_
  refine x_goto (tgt := 110) dX5_types_187 (by decide) ?_
  refine xP.pick (lv' := [(0, rv x0), (2, rv x2), (3, .int x3), (4, .int x4), (5, rv x5), (6, rv x6), (7, .int (x7 + 1))]) [1, 2, 3, 4, 5, 6, 0] rfl ?_
  exact hq
set_option maxRecDepth 100000 in
def bX5_types_110 (G : xG) (fr lo : Nat) (x0 : Nat) (x2 : Nat) (x3 : Int32) (x4 : Int32) (x5 : Nat) (x6 : Nat) (x7 : Int32) (h : xH) (Q : Outcome → xH → Prop) : Prop := tg h x2 = 8 ∧ tg h (fR h x2 1792) = 29 ∧ 1 ≤ fr ∧ 13 ≤ lo ∧ xRi G YJ2_size (fr - 1) (lo - 13) [rv (fR h x2 1792)] h (fun x6 h5 => xext h h5 → ((x6 ≤ x7 → tg h5 x0 = 6 ∧ tg h5 (fR h5 x0 1289) = 29 ∧ 1 ≤ fr ∧ 14 ≤ lo ∧ xRr G YJ2_get (fr - 1) (lo - 14) [rv (fR h5 x0 1289), .int x4] h5 (fun x14 h13 => xext h5 h13 → tg h13 x14 = 7 ∧ ((x6 = 0 → 1 ≤ fr ∧ 15 ≤ lo ∧ xRr G YX5_namedType (fr - 1) (lo - 15) [rv x0, rv x5] h13 (fun x22 h21 => xext h13 h21 → bX5_types_219 G fr lo x0 x2 x3 x4 x5 x22 x14 x0 h21 Q) (fun r h2 => Q (.threw r) h2)) ∧ (¬ x6 = 0 → bX5_types_219 G fr lo x0 x2 x3 x4 x5 x6 x14 x0 h13 Q))) (fun r h2 => Q (.threw r) h2)) ∧ (¬ x6 ≤ x7 → tg h5 (fR h5 x2 1792) = 29 ∧ 1 ≤ fr ∧ 13 ≤ lo ∧ xRr G YJ2_get (fr - 1) (lo - 13) [rv (fR h5 x2 1792), .int x7] h5 (fun x29 h28 => xext h5 h28 → tg h28 x29 = 9 ∧ ((¬ (fI h28 x29 2048) = 1 → bX5_types_184 G fr lo x0 x2 x3 x4 x5 x6 x7 h28 Q) ∧ ((fI h28 x29 2048) = 1 → tg h28 (fR h28 x2 1792) = 29 ∧ 1 ≤ fr ∧ 13 ≤ lo ∧ xRr G YJ2_get (fr - 1) (lo - 13) [rv (fR h28 x2 1792), .int x7] h28 (fun x38 h37 => xext h28 h37 → tg h37 x38 = 9 ∧ tg h37 x5 = 16 ∧ 1 ≤ fr ∧ 13 ≤ lo ∧ xRr G YX15_text (fr - 1) (lo - 13) [rv x5] h37 (fun x45 h44 => xext h37 h44 → tg h44 (fR h37 x38 2049) = 31 ∧ 1 ≤ fr ∧ 14 ≤ lo ∧ xRi G YJ5_equals (fr - 1) (lo - 14) [rv (fR h37 x38 2049), rv x45] h44 (fun x51 h50 => xext h44 h50 → ((x51 = 0 → bX5_types_184 G fr lo x0 x2 x3 x4 x5 x6 x7 h50 Q) ∧ (¬ x51 = 0 → tg h50 (fR h50 x2 1792) = 29 ∧ 1 ≤ fr ∧ 13 ≤ lo ∧ xRr G YJ2_get (fr - 1) (lo - 13) [rv (fR h50 x2 1792), .int x7] h50 (fun x61 h60 => xext h50 h60 → tg h60 x61 = 9 ∧ bX5_types_184 G fr lo x0 x2 x3 x4 x5 (fR h60 x61 2050) x7 h60 Q) (fun r h2 => Q (.threw r) h2)))) (fun r h2 => Q (.threw r) h2)) (fun r h2 => Q (.threw r) h2)) (fun r h2 => Q (.threw r) h2)))) (fun r h2 => Q (.threw r) h2)))) (fun r h2 => Q (.threw r) h2)
set_option maxRecDepth 100000 in
theorem uX5_types_110 {G : xG} {fr lo : Nat} {x0 : Nat} {x2 : Nat} {x3 : Int32} {x4 : Int32} {x5 : Nat} {x6 : Nat} {x7 : Int32} {h : xH} {Q : Outcome → xH → Prop} (hq : bX5_types_110 G fr lo x0 x2 x3 x4 x5 x6 x7 h Q) : xP G YX5_types fr lo 110 [(0, rv x0), (2, rv x2), (3, .int x3), (4, .int x4), (5, rv x5), (6, rv x6), (7, .int x7)] [] h Q := by
  unfold bX5_types_110 at hq
  refine x_iload 6 dX5_types_110 rfl ?_
  refine x_aload_n 1 dX5_types_112 rfl ?_
  obtain ⟨g1, hq⟩ := hq
  refine x_getN (v := rv (fR h x2 1792)) gfX5_115 dX5_types_113 g1 rfl ?_
  obtain ⟨g2, hq⟩ := hq
  obtain ⟨g3, g4, hq⟩ := hq
  refine x_callV (Yc := YJ2_size) (as := []) (st := [.int x7]) q2271 mvJ2_size g2 rfl dX5_types_116 (xle (xal1 (rv_cat _) xal0) (by decide)) (xfr g3) (xlo (xsw1 rfl xsw0) (by decide) g4) (xKi hq (fun x6 h5 hq e7 => ?_) (fun _ _ q _ => q))
  replace hq := hq e7
  refine x_icmp_ge (tgt := 190) dX5_types_119 (by decide) (fun c8 => ?_) (fun c8 => ?_)
  · replace hq := hq.1 c8
    refine x_aload_n 0 dX5_types_190 rfl ?_
    refine x_aload_n 0 dX5_types_191 rfl ?_
    obtain ⟨g9, hq⟩ := hq
    refine x_get (v := rv (fR h5 x0 1289)) fdX5_51 dX5_types_192 g9 rfl ?_
    refine x_iload 3 dX5_types_195 rfl ?_
    obtain ⟨g10, hq⟩ := hq
    obtain ⟨g11, g12, hq⟩ := hq
    refine x_callV (Yc := YJ2_get) (as := [.int x4]) (st := [rv x0]) q2304 mvJ2_get g10 rfl dX5_types_197 (xle (xal1 (rv_cat _) (xal1 rfl xal0)) (by decide)) (xfr g11) (xlo (xsw1 (rv_cat _) xsw0) (by decide) g12) (xKr hq (fun x14 h13 hq e15 => ?_) (fun _ _ q _ => q))
    replace hq := hq e15
    obtain ⟨g16, hq⟩ := hq
    refine x_cast (ci := 6) (by decide) rfl q687 g16 dX5_types_200 ?_
    refine x_aload 5 dX5_types_203 rfl ?_
    refine x_ifnull (tgt := 213) dX5_types_205 (by decide) (fun c17 => ?_) (fun c17 => ?_)
    · replace hq := hq.1 c17
      refine x_aload_n 0 dX5_types_213 rfl ?_
      refine x_aload 4 dX5_types_214 rfl ?_
      have t18 : tg h13 x0 = 6 := e15.tg g9 (by decide)
      obtain ⟨g19, g20, hq⟩ := hq
      refine x_callV (Yc := YX5_namedType) (as := [rv x5]) (st := [rv x14, rv x0]) q2276 mvX5_namedType t18 rfl dX5_types_216 (xle (xal1 (rv_cat _) (xal1 (rv_cat _) xal0)) (by decide)) (xfr g19) (xlo (xsw1 (rv_cat _) (xsw1 (rv_cat _) xsw0)) (by decide) g20) (xKr hq (fun x22 h21 hq e23 => ?_) (fun _ _ q _ => q))
      replace hq := hq e23
      refine xP.pick (lv' := [(0, rv x0), (2, rv x2), (3, .int x3), (4, .int x4), (5, rv x5)]) [0, 1, 2, 3, 4] rfl ?_
      exact uX5_types_219 hq
    · replace hq := hq.2 c17
      refine x_aload 5 dX5_types_208 rfl ?_
      refine x_goto (tgt := 219) dX5_types_210 (by decide) ?_
      refine xP.pick (lv' := [(0, rv x0), (2, rv x2), (3, .int x3), (4, .int x4), (5, rv x5)]) [0, 1, 2, 3, 4] rfl ?_
      exact uX5_types_219 hq
  · replace hq := hq.2 c8
    refine x_aload_n 1 dX5_types_122 rfl ?_
    have t24 : tg h5 x2 = 8 := e7.tg g1 (by decide)
    refine x_getN (v := rv (fR h5 x2 1792)) gfX5_115 dX5_types_123 t24 rfl ?_
    refine x_iload 6 dX5_types_126 rfl ?_
    obtain ⟨g25, hq⟩ := hq
    obtain ⟨g26, g27, hq⟩ := hq
    refine x_callV (Yc := YJ2_get) (as := [.int x7]) (st := []) q2304 mvJ2_get g25 rfl dX5_types_128 (xle (xal1 (rv_cat _) (xal1 rfl xal0)) (by decide)) (xfr g26) (xlo xsw0 (by decide) g27) (xKr hq (fun x29 h28 hq e30 => ?_) (fun _ _ q _ => q))
    replace hq := hq e30
    obtain ⟨g31, hq⟩ := hq
    refine x_cast (ci := 8) (by decide) rfl q902 g31 dX5_types_131 ?_
    refine x_getN (v := .int (fI h28 x29 2048)) gfX5_199 dX5_types_134 g31 rfl ?_
    refine x_iconst (v := 1) dX5_types_137 (by decide) ?_
    refine x_icmp_ne (tgt := 184) dX5_types_138 (by decide) (fun c32 => ?_) (fun c32 => ?_)
    · replace hq := hq.1 c32
      exact uX5_types_184 hq
    · replace hq := hq.2 c32
      refine x_aload_n 1 dX5_types_141 rfl ?_
      have t33 : tg h28 x2 = 8 := e30.tg t24 (by decide)
      refine x_getN (v := rv (fR h28 x2 1792)) gfX5_115 dX5_types_142 t33 rfl ?_
      refine x_iload 6 dX5_types_145 rfl ?_
      obtain ⟨g34, hq⟩ := hq
      obtain ⟨g35, g36, hq⟩ := hq
      refine x_callV (Yc := YJ2_get) (as := [.int x7]) (st := []) q2304 mvJ2_get g34 rfl dX5_types_147 (xle (xal1 (rv_cat _) (xal1 rfl xal0)) (by decide)) (xfr g35) (xlo xsw0 (by decide) g36) (xKr hq (fun x38 h37 hq e39 => ?_) (fun _ _ q _ => q))
      replace hq := hq e39
      obtain ⟨g40, hq⟩ := hq
      refine x_cast (ci := 8) (by decide) rfl q902 g40 dX5_types_150 ?_
      refine x_getN (v := rv (fR h37 x38 2049)) gfX5_155 dX5_types_153 g40 rfl ?_
      refine x_aload 4 dX5_types_156 rfl ?_
      obtain ⟨g41, hq⟩ := hq
      obtain ⟨g42, g43, hq⟩ := hq
      refine x_callV (Yc := YX15_text) (as := []) (st := [rv (fR h37 x38 2049)]) q2009 mvX15_text g41 rfl dX5_types_158 (xle (xal1 (rv_cat _) xal0) (by decide)) (xfr g42) (xlo (xsw1 (rv_cat _) xsw0) (by decide) g43) (xKr hq (fun x45 h44 hq e46 => ?_) (fun _ _ q _ => q))
      replace hq := hq e46
      obtain ⟨g47, hq⟩ := hq
      obtain ⟨g48, g49, hq⟩ := hq
      refine x_callV (Yc := YJ5_equals) (as := [rv x45]) (st := []) q2086 mvJ5_equals g47 rfl dX5_types_161 (xle (xal1 (rv_cat _) (xal1 (rv_cat _) xal0)) (by decide)) (xfr g48) (xlo xsw0 (by decide) g49) (xKi hq (fun x51 h50 hq e52 => ?_) (fun _ _ q _ => q))
      replace hq := hq e52
      refine x_if_eq (tgt := 184) dX5_types_164 (by decide) (fun c53 => ?_) (fun c53 => ?_)
      · replace hq := hq.1 c53
        exact uX5_types_184 hq
      · replace hq := hq.2 c53
        refine x_aload_n 1 dX5_types_167 rfl ?_
        have t54 : tg h37 x2 = 8 := e39.tg t33 (by decide)
        have t55 : tg h44 x2 = 8 := e46.tg t54 (by decide)
        have t56 : tg h50 x2 = 8 := e52.tg t55 (by decide)
        refine x_getN (v := rv (fR h50 x2 1792)) gfX5_115 dX5_types_168 t56 rfl ?_
        refine x_iload 6 dX5_types_171 rfl ?_
        obtain ⟨g57, hq⟩ := hq
        obtain ⟨g58, g59, hq⟩ := hq
        refine x_callV (Yc := YJ2_get) (as := [.int x7]) (st := []) q2304 mvJ2_get g57 rfl dX5_types_173 (xle (xal1 (rv_cat _) (xal1 rfl xal0)) (by decide)) (xfr g58) (xlo xsw0 (by decide) g59) (xKr hq (fun x61 h60 hq e62 => ?_) (fun _ _ q _ => q))
        replace hq := hq e62
        obtain ⟨g63, hq⟩ := hq
        refine x_cast (ci := 8) (by decide) rfl q902 g63 dX5_types_176 ?_
        refine x_getN (v := rv (fR h60 x61 2050)) gfX5_249 dX5_types_179 g63 rfl ?_
        refine x_astore (lv' := [(6, rv (fR h60 x61 2050)), (0, rv x0), (2, rv x2), (3, .int x3), (4, .int x4), (5, rv x5), (7, .int x7)]) dX5_types_182 (by decide) (by first | rfl | (simp [rv_cat, Value.category]; done) | (simp [rv_cat, Value.category]; decide)) ?_
        refine xP.pick (lv' := [(0, rv x0), (2, rv x2), (3, .int x3), (4, .int x4), (5, rv x5), (6, rv (fR h60 x61 2050)), (7, .int x7)]) [1, 2, 3, 4, 5, 0, 6] rfl ?_
        exact uX5_types_184 hq
set_option maxRecDepth 100000 in
def bX5_types_78 (G : xG) (fr lo : Nat) (x0 : Nat) (x2 : Nat) (x3 : Int32) (x4 : Int32) (h : xH) (Q : Outcome → xH → Prop) : Prop := tg h x0 = 6 ∧ tg h (fR h x0 1289) = 29 ∧ 1 ≤ fr ∧ 13 ≤ lo ∧ xRi G YJ2_size (fr - 1) (lo - 13) [rv (fR h x0 1289)] h (fun x6 h5 => xext h h5 → ((x6 ≤ x4 → tg h5 (fR h5 x0 1289) = 29 ∧ 1 ≤ fr ∧ 15 ≤ lo ∧ xRv G YJ2_clear (fr - 1) (lo - 15) [rv (fR h5 x0 1289)] h5 (fun h13 => xext h5 h13 → tg h13 (fR h13 x0 1290) = 29 ∧ 1 ≤ fr ∧ 15 ≤ lo ∧ xRv G YJ2_clear (fr - 1) (lo - 15) [rv (fR h13 x0 1290)] h13 (fun h20 => xext h13 h20 → Q (.returned none) h20) (fun r h2 => Q (.threw r) h2)) (fun r h2 => Q (.threw r) h2)) ∧ (¬ x6 ≤ x4 → tg h5 (fR h5 x0 1290) = 29 ∧ 1 ≤ fr ∧ 13 ≤ lo ∧ xRr G YJ2_get (fr - 1) (lo - 13) [rv (fR h5 x0 1290), .int x4] h5 (fun x28 h27 => xext h5 h27 → tg h27 x28 = 16 ∧ lX5_types_110 G fr lo x0 x2 x3 x4 x28 0 x3 h27 Q) (fun r h2 => Q (.threw r) h2)))) (fun r h2 => Q (.threw r) h2)
set_option maxRecDepth 100000 in
theorem uX5_types_78 {G : xG} {fr lo : Nat} {x0 : Nat} {x2 : Nat} {x3 : Int32} {x4 : Int32} {h : xH} {Q : Outcome → xH → Prop} (hq : bX5_types_78 G fr lo x0 x2 x3 x4 h Q) : xP G YX5_types fr lo 78 [(0, rv x0), (2, rv x2), (3, .int x3), (4, .int x4)] [] h Q := by
  unfold bX5_types_78 at hq
  refine x_iload 3 dX5_types_78 rfl ?_
  refine x_aload_n 0 dX5_types_80 rfl ?_
  obtain ⟨g1, hq⟩ := hq
  refine x_get (v := rv (fR h x0 1289)) fdX5_51 dX5_types_81 g1 rfl ?_
  obtain ⟨g2, hq⟩ := hq
  obtain ⟨g3, g4, hq⟩ := hq
  refine x_callV (Yc := YJ2_size) (as := []) (st := [.int x4]) q2271 mvJ2_size g2 rfl dX5_types_84 (xle (xal1 (rv_cat _) xal0) (by decide)) (xfr g3) (xlo (xsw1 rfl xsw0) (by decide) g4) (xKi hq (fun x6 h5 hq e7 => ?_) (fun _ _ q _ => q))
  replace hq := hq e7
  refine x_icmp_ge (tgt := 230) dX5_types_87 (by decide) (fun c8 => ?_) (fun c8 => ?_)
  · replace hq := hq.1 c8
    refine x_aload_n 0 dX5_types_230 rfl ?_
    have t9 : tg h5 x0 = 6 := e7.tg g1 (by decide)
    refine x_get (v := rv (fR h5 x0 1289)) fdX5_51 dX5_types_231 t9 rfl ?_
    obtain ⟨g10, hq⟩ := hq
    obtain ⟨g11, g12, hq⟩ := hq
    refine x_callV (Yc := YJ2_clear) (as := []) (st := []) q2085 mvJ2_clear g10 rfl dX5_types_234 (xle (xal1 (rv_cat _) xal0) (by decide)) (xfr g11) (xlo xsw0 (by decide) g12) (xKv hq (fun h13 hq e15 => ?_) (fun _ _ q _ => q))
    replace hq := hq e15
    refine x_aload_n 0 dX5_types_237 rfl ?_
    have t16 : tg h13 x0 = 6 := e15.tg t9 (by decide)
    refine x_get (v := rv (fR h13 x0 1290)) fdX5_55 dX5_types_238 t16 rfl ?_
    obtain ⟨g17, hq⟩ := hq
    obtain ⟨g18, g19, hq⟩ := hq
    refine x_callV (Yc := YJ2_clear) (as := []) (st := []) q2085 mvJ2_clear g17 rfl dX5_types_241 (xle (xal1 (rv_cat _) xal0) (by decide)) (xfr g18) (xlo xsw0 (by decide) g19) (xKv hq (fun h20 hq e22 => ?_) (fun _ _ q _ => q))
    replace hq := hq e22
    exact x_vret rfl dX5_types_244 hq
  · replace hq := hq.2 c8
    refine x_aload_n 0 dX5_types_90 rfl ?_
    have t23 : tg h5 x0 = 6 := e7.tg g1 (by decide)
    refine x_get (v := rv (fR h5 x0 1290)) fdX5_55 dX5_types_91 t23 rfl ?_
    refine x_iload 3 dX5_types_94 rfl ?_
    obtain ⟨g24, hq⟩ := hq
    obtain ⟨g25, g26, hq⟩ := hq
    refine x_callV (Yc := YJ2_get) (as := [.int x4]) (st := []) q2304 mvJ2_get g24 rfl dX5_types_96 (xle (xal1 (rv_cat _) (xal1 rfl xal0)) (by decide)) (xfr g25) (xlo xsw0 (by decide) g26) (xKr hq (fun x28 h27 hq e29 => ?_) (fun _ _ q _ => q))
    replace hq := hq e29
    obtain ⟨g30, hq⟩ := hq
    refine x_cast (ci := 15) (by decide) rfl q2426 g30 dX5_types_99 ?_
    refine x_astore (lv' := [(5, rv x28), (0, rv x0), (2, rv x2), (3, .int x3), (4, .int x4)]) dX5_types_102 (by decide) rfl ?_
    refine x_null dX5_types_104 ?_
    refine x_astore (lv' := [(6, rv 0), (5, rv x28), (0, rv x0), (2, rv x2), (3, .int x3), (4, .int x4)]) dX5_types_105 (by decide) (by first | rfl | (simp [rv_cat, Value.category]; done) | (simp [rv_cat, Value.category]; decide)) ?_
    refine x_iload_n 4 dX5_types_107 rfl ?_
    refine x_istore (lv' := [(7, .int x3), (6, rv 0), (5, rv x28), (0, rv x0), (2, rv x2), (3, .int x3), (4, .int x4)]) dX5_types_108 (by decide) (by first | rfl | (simp [rv_cat, Value.category]; done) | (simp [rv_cat, Value.category]; decide)) ?_
    refine xP.pick (lv' := [(0, rv x0), (2, rv x2), (3, .int x3), (4, .int x4), (5, rv x28), (6, rv 0), (7, .int x3)]) [3, 4, 5, 6, 2, 1, 0] rfl ?_
    exact hq
set_option maxRecDepth 100000 in
def bX5_types_19 (G : xG) (fr lo : Nat) (x0 : Nat) (x2 : Nat) (x3 : Int32) (x4 : Nat) (h : xH) (Q : Outcome → xH → Prop) : Prop := ((x4 = 0 → tg h x0 = 6 ∧ (∀ h3 : xH, h3 = sI h x0 1291 0 → lX5_types_78 G fr lo x0 x2 x3 0 h3 Q)) ∧ (¬ x4 = 0 → tg h x4 = 16 ∧ tg h x0 = 6 ∧ 1 ≤ fr ∧ 14 ≤ lo ∧ xRr G YX5_typeOf (fr - 1) (lo - 14) [rv x0, rv (fR h x4 3842)] h (fun x10 h9 => xext h h9 → nx h9 + 1 ≤ xGN G ∧ us h9 + 12 ≤ xGU G ∧ (∀ (a14 : Nat) (h15 : xH), a14 = nx h9 + 1 → h15 = nO h9 9 12 → xfresh h9 a14 → 1 ≤ fr ∧ 17 ≤ lo ∧ xRr G YX15_text (fr - 1) (lo - 17) [rv x4] h15 (fun x25 h24 => xext h15 h24 → 1 ≤ fr ∧ 18 ≤ lo ∧ xRv G YX8_init (fr - 1) (lo - 18) [rv a14, .int 1, rv x25, rv x10] h24 (fun h30 => xext h24 h30 → 1 ≤ fr ∧ 15 ≤ lo ∧ xRi G YX15_place (fr - 1) (lo - 15) [rv x4] h30 (fun x38 h37 => xext h30 h37 → 1 ≤ fr ∧ 15 ≤ lo ∧ xRv G YX5_define (fr - 1) (lo - 15) [rv x0, rv x2, rv a14, .int x38] h37 (fun h47 => xext h37 h47 → lX5_types_19 G fr lo x0 x2 x3 (fR h47 x4 3844) h47 Q) (fun r h2 => Q (.threw r) h2)) (fun r h2 => Q (.threw r) h2)) (fun r h2 => Q (.threw r) h2)) (fun r h2 => Q (.threw r) h2))) (fun r h2 => Q (.threw r) h2)))
set_option maxRecDepth 100000 in
theorem uX5_types_19 {G : xG} {fr lo : Nat} {x0 : Nat} {x2 : Nat} {x3 : Int32} {x4 : Nat} {h : xH} {Q : Outcome → xH → Prop} (hq : bX5_types_19 G fr lo x0 x2 x3 x4 h Q) : xP G YX5_types fr lo 19 [(0, rv x0), (2, rv x2), (3, .int x3), (4, rv x4)] [] h Q := by
  unfold bX5_types_19 at hq
  refine x_aload 3 dX5_types_19 rfl ?_
  refine x_ifnull (tgt := 70) dX5_types_21 (by decide) (fun c1 => ?_) (fun c1 => ?_)
  · replace hq := hq.1 c1
    refine x_aload_n 0 dX5_types_70 rfl ?_
    refine x_iconst (v := 0) dX5_types_71 (by decide) ?_
    obtain ⟨g2, hq⟩ := hq
    obtain ⟨h3, e4⟩ : ∃ y, y = sI h x0 1291 0 := ⟨_, rfl⟩
    replace hq := hq h3 e4
    refine x_putI fdX5_346 xty_Z1 dX5_types_72 g2 (Or.inl (by rw [g2]; rfl)) (xnB (Or.inl rfl)) rfl e4 ?_
    refine x_iconst (v := 0) dX5_types_75 (by decide) ?_
    refine x_istore (lv' := [(4, .int 0), (0, rv x0), (2, rv x2), (3, .int x3)]) dX5_types_76 (by decide) rfl ?_
    refine xP.pick (lv' := [(0, rv x0), (2, rv x2), (3, .int x3), (4, .int 0)]) [1, 2, 3, 0] rfl ?_
    exact hq
  · replace hq := hq.2 c1
    refine x_aload_n 0 dX5_types_24 rfl ?_
    refine x_aload 3 dX5_types_25 rfl ?_
    obtain ⟨g5, hq⟩ := hq
    refine x_getN (v := rv (fR h x4 3842)) gfX5_251 dX5_types_27 g5 rfl ?_
    obtain ⟨g6, hq⟩ := hq
    obtain ⟨g7, g8, hq⟩ := hq
    refine x_callV (Yc := YX5_typeOf) (as := [rv (fR h x4 3842)]) (st := []) q2272 mvX5_typeOf g6 rfl dX5_types_30 (xle (xal1 (rv_cat _) (xal1 (rv_cat _) xal0)) (by decide)) (xfr g7) (xlo xsw0 (by decide) g8) (xKr hq (fun x10 h9 hq e11 => ?_) (fun _ _ q _ => q))
    replace hq := hq e11
    refine x_astore (lv' := [(5, rv x10), (0, rv x0), (2, rv x2), (3, .int x3), (4, rv x4)]) dX5_types_33 (by decide) (by first | rfl | (simp [rv_cat, Value.category]; done) | (simp [rv_cat, Value.category]; decide)) ?_
    refine x_aload_n 1 dX5_types_35 rfl ?_
    refine x_aload_n 2 dX5_types_36 rfl ?_
    obtain ⟨g12, g13, hq⟩ := hq
    obtain ⟨a14, e16⟩ : ∃ y, y = nx h9 + 1 := ⟨_, rfl⟩
    obtain ⟨h15, e17⟩ : ∃ y, y = nO h9 9 12 := ⟨_, rfl⟩
    refine x_new' cdX5_103 dX5_types_37 g12 g13 e16 e17 (fun f18 => ?_)
    replace hq := hq a14 h15 e16 e17 f18
    have t19 : tg h15 a14 = 9 := by rw [e17, e16]; exact tg_nO
    refine x_dup dX5_types_40 (rv_cat _) ?_
    refine x_iconst (v := 1) dX5_types_41 (by decide) ?_
    refine x_aload 4 dX5_types_42 rfl ?_
    have t20 : tg h9 x4 = 16 := e11.tg g5 (by decide)
    have t21 : tg h15 x4 = 16 := by rw [e17]; exact tg_nO_ne e16 f18 t20 (by decide)
    obtain ⟨g22, g23, hq⟩ := hq
    refine x_callV (Yc := YX15_text) (as := []) (st := [.int 1, rv a14, rv a14, rv x2, rv x0]) q2009 mvX15_text t21 rfl dX5_types_44 (xle (xal1 (rv_cat _) xal0) (by decide)) (xfr g22) (xlo (xsw1 rfl (xsw1 (rv_cat _) (xsw1 (rv_cat _) (xsw1 (rv_cat _) (xsw1 (rv_cat _) xsw0))))) (by decide) g23) (xKr hq (fun x25 h24 hq e26 => ?_) (fun _ _ q _ => q))
    replace hq := hq e26
    refine x_aload 0 dX5_types_47 rfl ?_
    have t27 : tg h24 a14 = 9 := e26.tg t19 (by decide)
    obtain ⟨g28, g29, hq⟩ := hq
    refine x_callI (Yc := YX8_init) (as := [.int 1, rv x25, rv x10]) (st := [rv a14, rv x2, rv x0]) q961 miX8_init (by rw [t27]; decide) rfl dX5_types_49 (xle (xal1 (rv_cat _) (xal1 rfl (xal1 (rv_cat _) (xal1 (rv_cat _) xal0)))) (by decide)) (xfr g28) (xlo (xsw1 (rv_cat _) (xsw1 (rv_cat _) (xsw1 (rv_cat _) xsw0))) (by decide) g29) (xKv hq (fun h30 hq e32 => ?_) (fun _ _ q _ => q))
    replace hq := hq e32
    refine x_aload 4 dX5_types_52 rfl ?_
    have t33 : tg h24 x4 = 16 := e26.tg t21 (by decide)
    have t34 : tg h30 x4 = 16 := e32.tg t33 (by decide)
    obtain ⟨g35, g36, hq⟩ := hq
    refine x_callV (Yc := YX15_place) (as := []) (st := [rv a14, rv x2, rv x0]) q2013 mvX15_place t34 rfl dX5_types_54 (xle (xal1 (rv_cat _) xal0) (by decide)) (xfr g35) (xlo (xsw1 (rv_cat _) (xsw1 (rv_cat _) (xsw1 (rv_cat _) xsw0))) (by decide) g36) (xKi hq (fun x38 h37 hq e39 => ?_) (fun _ _ q _ => q))
    replace hq := hq e39
    have t40 : tg h9 x0 = 6 := e11.tg g6 (by decide)
    have t41 : tg h15 x0 = 6 := by rw [e17]; exact tg_nO_ne e16 f18 t40 (by decide)
    have t42 : tg h24 x0 = 6 := e26.tg t41 (by decide)
    have t43 : tg h30 x0 = 6 := e32.tg t42 (by decide)
    have t44 : tg h37 x0 = 6 := e39.tg t43 (by decide)
    obtain ⟨g45, g46, hq⟩ := hq
    refine x_callV (Yc := YX5_define) (as := [rv x2, rv a14, .int x38]) (st := []) q2103 mvX5_define t44 rfl dX5_types_57 (xle (xal1 (rv_cat _) (xal1 (rv_cat _) (xal1 (rv_cat _) (xal1 rfl xal0)))) (by decide)) (xfr g45) (xlo xsw0 (by decide) g46) (xKv hq (fun h47 hq e49 => ?_) (fun _ _ q _ => q))
    replace hq := hq e49
    refine x_aload 4 dX5_types_60 rfl ?_
    have t50 : tg h37 x4 = 16 := e39.tg t34 (by decide)
    have t51 : tg h47 x4 = 16 := e49.tg t50 (by decide)
    refine x_getN (v := rv (fR h47 x4 3844)) gfX5_307 dX5_types_62 t51 rfl ?_
    refine x_astore (lv' := [(4, rv (fR h47 x4 3844)), (5, rv x10), (0, rv x0), (2, rv x2), (3, .int x3)]) dX5_types_65 (by decide) rfl ?_
    refine x_goto (tgt := 19) dX5_types_67 (by decide) ?_
    refine xP.pick (lv' := [(0, rv x0), (2, rv x2), (3, .int x3), (4, rv (fR h47 x4 3844))]) [2, 3, 4, 0] rfl ?_
    exact hq
set_option maxRecDepth 100000 in
def bX5_types (G : xG) (fr lo : Nat) (x0 : Nat) (x1 : Nat) (x2 : Nat) (h : xH) (Q : Outcome → xH → Prop) : Prop := tg h x2 = 8 ∧ tg h (fR h x2 1792) = 29 ∧ 1 ≤ fr ∧ 12 ≤ lo ∧ xRi G YJ2_size (fr - 1) (lo - 12) [rv (fR h x2 1792)] h (fun x6 h5 => xext h h5 → tg h5 x0 = 6 ∧ (∀ h9 : xH, h9 = sI h5 x0 1291 1 → tg h9 x1 = 16 ∧ lX5_types_19 G fr lo x0 x2 x6 (fR h9 x1 3842) h9 Q)) (fun r h2 => Q (.threw r) h2)
set_option maxRecDepth 100000 in
theorem uX5_types {G : xG} {fr lo : Nat} {x0 : Nat} {x1 : Nat} {x2 : Nat} {h : xH} {Q : Outcome → xH → Prop} (hq : bX5_types G fr lo x0 x1 x2 h Q) : xP G YX5_types fr lo 0 [(0, rv x0), (1, rv x1), (2, rv x2)] [] h Q := by
  unfold bX5_types at hq
  refine x_aload_n 2 dX5_types_0 rfl ?_
  obtain ⟨g1, hq⟩ := hq
  refine x_getN (v := rv (fR h x2 1792)) gfX5_115 dX5_types_1 g1 rfl ?_
  obtain ⟨g2, hq⟩ := hq
  obtain ⟨g3, g4, hq⟩ := hq
  refine x_callV (Yc := YJ2_size) (as := []) (st := []) q2271 mvJ2_size g2 rfl dX5_types_4 (xle (xal1 (rv_cat _) xal0) (by decide)) (xfr g3) (xlo xsw0 (by decide) g4) (xKi hq (fun x6 h5 hq e7 => ?_) (fun _ _ q _ => q))
  replace hq := hq e7
  refine x_istore_n (lv' := [(3, .int x6), (0, rv x0), (1, rv x1), (2, rv x2)]) dX5_types_7 (by decide) (by first | rfl | (simp [rv_cat, Value.category]; done) | (simp [rv_cat, Value.category]; decide)) ?_
  refine x_aload_n 1 dX5_types_8 rfl ?_
  refine x_iconst (v := 1) dX5_types_9 (by decide) ?_
  obtain ⟨g8, hq⟩ := hq
  obtain ⟨h9, e10⟩ : ∃ y, y = sI h5 x0 1291 1 := ⟨_, rfl⟩
  replace hq := hq h9 e10
  refine x_putI fdX5_346 xty_Z1 dX5_types_10 g8 (Or.inl (by rw [g8]; rfl)) (xnB (Or.inr rfl)) rfl e10 ?_
  refine x_aload_n 2 dX5_types_13 rfl ?_
  obtain ⟨g11, hq⟩ := hq
  refine x_getN (v := rv (fR h9 x1 3842)) gfX5_251 dX5_types_14 g11 rfl ?_
  refine x_astore (lv' := [(4, rv (fR h9 x1 3842)), (3, .int x6), (0, rv x0), (1, rv x1), (2, rv x2)]) dX5_types_17 (by decide) rfl ?_
  refine xP.pick (lv' := [(0, rv x0), (2, rv x2), (3, .int x6), (4, rv (fR h9 x1 3842))]) [2, 4, 1, 0] rfl ?_
  exact hq
theorem rX5_types {G : xG} {fr lo : Nat} {x0 : Nat} {x1 : Nat} {x2 : Nat} {h : xH} {Q : Outcome → xH → Prop} (hq : bX5_types G fr lo x0 x1 x2 h Q) : xR G YX5_types fr lo [rv x0, rv x1, rv x2] h Q := by
  show xP _ _ _ _ _ (lv_args 0 _) _ _ _
  rw [show lv_args 0 [rv x0, rv x1, rv x2] = [(0, rv x0), (1, rv x1), (2, rv x2)] from (xla1 (rv_cat _) (xla1 (rv_cat _) (xla1 (rv_cat _) xla0)))]
  exact uX5_types hq
set_option maxRecDepth 100000 in
theorem dX5_typeOf_0 : decode cX5_typeOf 0 = .ok (.aload_n 1, 1) := by decide +kernel
set_option maxRecDepth 100000 in
theorem dX5_typeOf_1 : decode cX5_typeOf 1 = .ok (.getfield 264, 3) := by decide +kernel
set_option maxRecDepth 100000 in
theorem dX5_typeOf_4 : decode cX5_typeOf 4 = .ok (.tableswitch 139 6 12 #[44, 50, 56, 62, 68, 74, 80], 44) := by decide +kernel
set_option maxRecDepth 100000 in
theorem dX5_typeOf_48 : decode cX5_typeOf 48 = .ok (.aload_n 0, 1) := by decide +kernel
set_option maxRecDepth 100000 in
theorem dX5_typeOf_49 : decode cX5_typeOf 49 = .ok (.aload_n 1, 1) := by decide +kernel
set_option maxRecDepth 100000 in
theorem dX5_typeOf_50 : decode cX5_typeOf 50 = .ok (.invokevirtual 265, 3) := by decide +kernel
set_option maxRecDepth 100000 in
theorem dX5_typeOf_53 : decode cX5_typeOf 53 = .ok (.areturn, 1) := by decide +kernel
set_option maxRecDepth 100000 in
theorem dX5_typeOf_54 : decode cX5_typeOf 54 = .ok (.aload_n 0, 1) := by decide +kernel
set_option maxRecDepth 100000 in
theorem dX5_typeOf_55 : decode cX5_typeOf 55 = .ok (.aload_n 1, 1) := by decide +kernel
set_option maxRecDepth 100000 in
theorem dX5_typeOf_56 : decode cX5_typeOf 56 = .ok (.invokevirtual 269, 3) := by decide +kernel
set_option maxRecDepth 100000 in
theorem dX5_typeOf_59 : decode cX5_typeOf 59 = .ok (.areturn, 1) := by decide +kernel
set_option maxRecDepth 100000 in
theorem dX5_typeOf_60 : decode cX5_typeOf 60 = .ok (.aload_n 0, 1) := by decide +kernel
set_option maxRecDepth 100000 in
theorem dX5_typeOf_61 : decode cX5_typeOf 61 = .ok (.aload_n 1, 1) := by decide +kernel
set_option maxRecDepth 100000 in
theorem dX5_typeOf_62 : decode cX5_typeOf 62 = .ok (.invokevirtual 272, 3) := by decide +kernel
set_option maxRecDepth 100000 in
theorem dX5_typeOf_65 : decode cX5_typeOf 65 = .ok (.areturn, 1) := by decide +kernel
set_option maxRecDepth 100000 in
theorem dX5_typeOf_66 : decode cX5_typeOf 66 = .ok (.aload_n 0, 1) := by decide +kernel
set_option maxRecDepth 100000 in
theorem dX5_typeOf_67 : decode cX5_typeOf 67 = .ok (.aload_n 1, 1) := by decide +kernel
set_option maxRecDepth 100000 in
theorem dX5_typeOf_68 : decode cX5_typeOf 68 = .ok (.invokevirtual 275, 3) := by decide +kernel
set_option maxRecDepth 100000 in
theorem dX5_typeOf_71 : decode cX5_typeOf 71 = .ok (.areturn, 1) := by decide +kernel
set_option maxRecDepth 100000 in
theorem dX5_typeOf_72 : decode cX5_typeOf 72 = .ok (.aload_n 0, 1) := by decide +kernel
set_option maxRecDepth 100000 in
theorem dX5_typeOf_73 : decode cX5_typeOf 73 = .ok (.aload_n 1, 1) := by decide +kernel
set_option maxRecDepth 100000 in
theorem dX5_typeOf_74 : decode cX5_typeOf 74 = .ok (.invokevirtual 278, 3) := by decide +kernel
set_option maxRecDepth 100000 in
theorem dX5_typeOf_77 : decode cX5_typeOf 77 = .ok (.areturn, 1) := by decide +kernel
set_option maxRecDepth 100000 in
theorem dX5_typeOf_78 : decode cX5_typeOf 78 = .ok (.aload_n 0, 1) := by decide +kernel
set_option maxRecDepth 100000 in
theorem dX5_typeOf_79 : decode cX5_typeOf 79 = .ok (.aload_n 1, 1) := by decide +kernel
set_option maxRecDepth 100000 in
theorem dX5_typeOf_80 : decode cX5_typeOf 80 = .ok (.invokevirtual 280, 3) := by decide +kernel
set_option maxRecDepth 100000 in
theorem dX5_typeOf_83 : decode cX5_typeOf 83 = .ok (.areturn, 1) := by decide +kernel
set_option maxRecDepth 100000 in
theorem dX5_typeOf_84 : decode cX5_typeOf 84 = .ok (.new 9, 3) := by decide +kernel
set_option maxRecDepth 100000 in
theorem dX5_typeOf_87 : decode cX5_typeOf 87 = .ok (.dup, 1) := by decide +kernel
set_option maxRecDepth 100000 in
theorem dX5_typeOf_88 : decode cX5_typeOf 88 = .ok (.bipush 10, 2) := by decide +kernel
set_option maxRecDepth 100000 in
theorem dX5_typeOf_90 : decode cX5_typeOf 90 = .ok (.invokespecial 11, 3) := by decide +kernel
set_option maxRecDepth 100000 in
theorem dX5_typeOf_93 : decode cX5_typeOf 93 = .ok (.aload_n 0, 1) := by decide +kernel
set_option maxRecDepth 100000 in
theorem dX5_typeOf_94 : decode cX5_typeOf 94 = .ok (.aload_n 1, 1) := by decide +kernel
set_option maxRecDepth 100000 in
theorem dX5_typeOf_95 : decode cX5_typeOf 95 = .ok (.getfield 251, 3) := by decide +kernel
set_option maxRecDepth 100000 in
theorem dX5_typeOf_98 : decode cX5_typeOf 98 = .ok (.invokevirtual 283, 3) := by decide +kernel
set_option maxRecDepth 100000 in
theorem dX5_typeOf_101 : decode cX5_typeOf 101 = .ok (.invokevirtual 35, 3) := by decide +kernel
set_option maxRecDepth 100000 in
theorem dX5_typeOf_104 : decode cX5_typeOf 104 = .ok (.astore_n 2, 1) := by decide +kernel
set_option maxRecDepth 100000 in
theorem dX5_typeOf_105 : decode cX5_typeOf 105 = .ok (.aload_n 2, 1) := by decide +kernel
set_option maxRecDepth 100000 in
theorem dX5_typeOf_106 : decode cX5_typeOf 106 = .ok (.getfield 286, 3) := by decide +kernel
set_option maxRecDepth 100000 in
theorem dX5_typeOf_109 : decode cX5_typeOf 109 = .ok (.getfield 289, 3) := by decide +kernel
set_option maxRecDepth 100000 in
theorem dX5_typeOf_112 : decode cX5_typeOf 112 = .ok (.bipush 10, 2) := by decide +kernel
set_option maxRecDepth 100000 in
theorem dX5_typeOf_114 : decode cX5_typeOf 114 = .ok (.if_icmp .ne 14, 3) := by decide +kernel
set_option maxRecDepth 100000 in
theorem dX5_typeOf_117 : decode cX5_typeOf 117 = .ok (.aload_n 0, 1) := by decide +kernel
set_option maxRecDepth 100000 in
theorem dX5_typeOf_118 : decode cX5_typeOf 118 = .ok (.bipush 7, 2) := by decide +kernel
set_option maxRecDepth 100000 in
theorem dX5_typeOf_120 : decode cX5_typeOf 120 = .ok (.aload_n 1, 1) := by decide +kernel
set_option maxRecDepth 100000 in
theorem dX5_typeOf_121 : decode cX5_typeOf 121 = .ok (.invokevirtual 192, 3) := by decide +kernel
set_option maxRecDepth 100000 in
theorem dX5_typeOf_124 : decode cX5_typeOf 124 = .ok (.invokevirtual 163, 3) := by decide +kernel
set_option maxRecDepth 100000 in
theorem dX5_typeOf_127 : decode cX5_typeOf 127 = .ok (.athrow, 1) := by decide +kernel
set_option maxRecDepth 100000 in
theorem dX5_typeOf_128 : decode cX5_typeOf 128 = .ok (.aload_n 2, 1) := by decide +kernel
set_option maxRecDepth 100000 in
theorem dX5_typeOf_129 : decode cX5_typeOf 129 = .ok (.iconst 1, 1) := by decide +kernel
set_option maxRecDepth 100000 in
theorem dX5_typeOf_130 : decode cX5_typeOf 130 = .ok (.aload_n 2, 1) := by decide +kernel
set_option maxRecDepth 100000 in
theorem dX5_typeOf_131 : decode cX5_typeOf 131 = .ok (.getfield 286, 3) := by decide +kernel
set_option maxRecDepth 100000 in
theorem dX5_typeOf_134 : decode cX5_typeOf 134 = .ok (.getfield 66, 3) := by decide +kernel
set_option maxRecDepth 100000 in
theorem dX5_typeOf_137 : decode cX5_typeOf 137 = .ok (.iadd, 1) := by decide +kernel
set_option maxRecDepth 100000 in
theorem dX5_typeOf_138 : decode cX5_typeOf 138 = .ok (.putfield 66, 3) := by decide +kernel
set_option maxRecDepth 100000 in
theorem dX5_typeOf_141 : decode cX5_typeOf 141 = .ok (.aload_n 2, 1) := by decide +kernel
set_option maxRecDepth 100000 in
theorem dX5_typeOf_142 : decode cX5_typeOf 142 = .ok (.areturn, 1) := by decide +kernel
set_option maxRecDepth 100000 in
theorem dX5_typeOf_143 : decode cX5_typeOf 143 = .ok (.aload_n 0, 1) := by decide +kernel
set_option maxRecDepth 100000 in
theorem dX5_typeOf_144 : decode cX5_typeOf 144 = .ok (.aload_n 1, 1) := by decide +kernel
set_option maxRecDepth 100000 in
theorem dX5_typeOf_145 : decode cX5_typeOf 145 = .ok (.invokevirtual 290, 3) := by decide +kernel
set_option maxRecDepth 100000 in
theorem dX5_typeOf_148 : decode cX5_typeOf 148 = .ok (.areturn, 1) := by decide +kernel
set_option maxRecDepth 100000 in
def bX5_typeOf (G : xG) (fr lo : Nat) (x0 : Nat) (x1 : Nat) (h : xH) (Q : Outcome → xH → Prop) : Prop := tg h x1 = 16 ∧ (((fI h x1 3840) = 6 → tg h x0 = 6 ∧ 1 ≤ fr ∧ 13 ≤ lo ∧ xRr G YX5_namedType (fr - 1) (lo - 13) [rv x0, rv x1] h (fun x7 h6 => xext h h6 → Q (.returned (some (rv x7))) h6) (fun r h2 => Q (.threw r) h2)) ∧ ((fI h x1 3840) = 7 → tg h x0 = 6 ∧ 1 ≤ fr ∧ 16 ≤ lo ∧ xRr G YX5_enumeration (fr - 1) (lo - 16) [rv x0, rv x1] h (fun x14 h13 => xext h h13 → Q (.returned (some (rv x14))) h13) (fun r h2 => Q (.threw r) h2)) ∧ ((fI h x1 3840) = 8 → tg h x0 = 6 ∧ 1 ≤ fr ∧ 16 ≤ lo ∧ xRr G YX5_range (fr - 1) (lo - 16) [rv x0, rv x1] h (fun x21 h20 => xext h h20 → Q (.returned (some (rv x21))) h20) (fun r h2 => Q (.threw r) h2)) ∧ ((fI h x1 3840) = 9 → tg h x0 = 6 ∧ 1 ≤ fr ∧ 21 ≤ lo ∧ xRr G YX5_array (fr - 1) (lo - 21) [rv x0, rv x1] h (fun x28 h27 => xext h h27 → Q (.returned (some (rv x28))) h27) (fun r h2 => Q (.threw r) h2)) ∧ ((fI h x1 3840) = 10 → tg h x0 = 6 ∧ 1 ≤ fr ∧ 14 ≤ lo ∧ xRr G YX5_record (fr - 1) (lo - 14) [rv x0, rv x1] h (fun x35 h34 => xext h h34 → Q (.returned (some (rv x35))) h34) (fun r h2 => Q (.threw r) h2)) ∧ ((fI h x1 3840) = 11 → tg h x0 = 6 ∧ 1 ≤ fr ∧ 14 ≤ lo ∧ xRr G YX5_set (fr - 1) (lo - 14) [rv x0, rv x1] h (fun x42 h41 => xext h h41 → Q (.returned (some (rv x42))) h41) (fun r h2 => Q (.threw r) h2)) ∧ ((fI h x1 3840) = 12 → nx h + 1 ≤ xGN G ∧ us h + 9 ≤ xGU G ∧ (∀ (a47 : Nat) (h48 : xH), a47 = nx h + 1 → h48 = nO h 7 9 → xfresh h a47 → 1 ≤ fr ∧ 14 ≤ lo ∧ xRv G YX6_init (fr - 1) (lo - 14) [rv a47, .int 10] h48 (fun h55 => xext h48 h55 → tg h55 x0 = 6 ∧ 1 ≤ fr ∧ 15 ≤ lo ∧ xRr G YX5_typeOf (fr - 1) (lo - 15) [rv x0, rv (fR h55 x1 3842)] h55 (fun x64 h63 => xext h55 h63 → 1 ≤ fr ∧ 13 ≤ lo ∧ xRr G YX6_of (fr - 1) (lo - 13) [rv a47, rv x64] h63 (fun x71 h70 => xext h63 h70 → tg h70 x71 = 7 ∧ tg h70 (fR h70 x71 1538) = 7 ∧ ((¬ (fI h70 (fR h70 x71 1538) 1536) = 10 → (∀ h76 : xH, h76 = sI h70 x71 1543 (1 + (fI h70 (fR h70 x71 1538) 1543)) → Q (.returned (some (rv x71))) h76)) ∧ ((fI h70 (fR h70 x71 1538) 1536) = 10 → 1 ≤ fr ∧ 14 ≤ lo ∧ xRi G YX15_place (fr - 1) (lo - 14) [rv x1] h70 (fun x83 h82 => xext h70 h82 → 1 ≤ fr ∧ 14 ≤ lo ∧ xRr G YX5_fault (fr - 1) (lo - 14) [rv x0, .int 7, .int x83] h82 (fun x91 h90 => xext h82 h90 → (∃ r93, x91 = r93 + 1 ∧ Q (.threw r93) h90)) (fun r h2 => Q (.threw r) h2)) (fun r h2 => Q (.threw r) h2)))) (fun r h2 => Q (.threw r) h2)) (fun r h2 => Q (.threw r) h2)) (fun r h2 => Q (.threw r) h2))) ∧ (¬ (fI h x1 3840) = 6 → ¬ (fI h x1 3840) = 7 → ¬ (fI h x1 3840) = 8 → ¬ (fI h x1 3840) = 9 → ¬ (fI h x1 3840) = 10 → ¬ (fI h x1 3840) = 11 → ¬ (fI h x1 3840) = 12 → tg h x0 = 6 ∧ 1 ≤ fr ∧ 14 ≤ lo ∧ xRr G YX5_pointer (fr - 1) (lo - 14) [rv x0, rv x1] h (fun x99 h98 => xext h h98 → Q (.returned (some (rv x99))) h98) (fun r h2 => Q (.threw r) h2)))
set_option maxRecDepth 100000 in
theorem uX5_typeOf {G : xG} {fr lo : Nat} {x0 : Nat} {x1 : Nat} {h : xH} {Q : Outcome → xH → Prop} (hq : bX5_typeOf G fr lo x0 x1 h Q) : xP G YX5_typeOf fr lo 0 [(0, rv x0), (1, rv x1)] [] h Q := by
  unfold bX5_typeOf at hq
  refine x_aload_n 1 dX5_typeOf_0 rfl ?_
  obtain ⟨g1, hq⟩ := hq
  refine x_getN (v := .int (fI h x1 3840)) gfX5_264 dX5_typeOf_1 g1 rfl ?_
  by_cases c2 : (fI h x1 3840) = 6
  · replace hq := hq.1 c2
    refine x_tin (tgt := 48) (off := 44) 6 c2 dX5_typeOf_4 (by decide) (by decide) (by decide) (by decide) ?_
    refine x_aload_n 0 dX5_typeOf_48 rfl ?_
    refine x_aload_n 1 dX5_typeOf_49 rfl ?_
    obtain ⟨g3, hq⟩ := hq
    obtain ⟨g4, g5, hq⟩ := hq
    refine x_callV (Yc := YX5_namedType) (as := [rv x1]) (st := []) q2276 mvX5_namedType g3 rfl dX5_typeOf_50 (xle (xal1 (rv_cat _) (xal1 (rv_cat _) xal0)) (by decide)) (xfr g4) (xlo xsw0 (by decide) g5) (xKr hq (fun x7 h6 hq e8 => ?_) (fun _ _ q _ => q))
    replace hq := hq e8
    exact x_aret rfl xty_O dX5_typeOf_53 hq
  replace hq := hq.2
  by_cases c9 : (fI h x1 3840) = 7
  · replace hq := hq.1 c9
    refine x_tin (tgt := 54) (off := 50) 7 c9 dX5_typeOf_4 (by decide) (by decide) (by decide) (by decide) ?_
    refine x_aload_n 0 dX5_typeOf_54 rfl ?_
    refine x_aload_n 1 dX5_typeOf_55 rfl ?_
    obtain ⟨g10, hq⟩ := hq
    obtain ⟨g11, g12, hq⟩ := hq
    refine x_callV (Yc := YX5_enumeration) (as := [rv x1]) (st := []) q2280 mvX5_enumeration g10 rfl dX5_typeOf_56 (xle (xal1 (rv_cat _) (xal1 (rv_cat _) xal0)) (by decide)) (xfr g11) (xlo xsw0 (by decide) g12) (xKr hq (fun x14 h13 hq e15 => ?_) (fun _ _ q _ => q))
    replace hq := hq e15
    exact x_aret rfl xty_O dX5_typeOf_59 hq
  replace hq := hq.2
  by_cases c16 : (fI h x1 3840) = 8
  · replace hq := hq.1 c16
    refine x_tin (tgt := 60) (off := 56) 8 c16 dX5_typeOf_4 (by decide) (by decide) (by decide) (by decide) ?_
    refine x_aload_n 0 dX5_typeOf_60 rfl ?_
    refine x_aload_n 1 dX5_typeOf_61 rfl ?_
    obtain ⟨g17, hq⟩ := hq
    obtain ⟨g18, g19, hq⟩ := hq
    refine x_callV (Yc := YX5_range) (as := [rv x1]) (st := []) q2284 mvX5_range g17 rfl dX5_typeOf_62 (xle (xal1 (rv_cat _) (xal1 (rv_cat _) xal0)) (by decide)) (xfr g18) (xlo xsw0 (by decide) g19) (xKr hq (fun x21 h20 hq e22 => ?_) (fun _ _ q _ => q))
    replace hq := hq e22
    exact x_aret rfl xty_O dX5_typeOf_65 hq
  replace hq := hq.2
  by_cases c23 : (fI h x1 3840) = 9
  · replace hq := hq.1 c23
    refine x_tin (tgt := 66) (off := 62) 9 c23 dX5_typeOf_4 (by decide) (by decide) (by decide) (by decide) ?_
    refine x_aload_n 0 dX5_typeOf_66 rfl ?_
    refine x_aload_n 1 dX5_typeOf_67 rfl ?_
    obtain ⟨g24, hq⟩ := hq
    obtain ⟨g25, g26, hq⟩ := hq
    refine x_callV (Yc := YX5_array) (as := [rv x1]) (st := []) q2292 mvX5_array g24 rfl dX5_typeOf_68 (xle (xal1 (rv_cat _) (xal1 (rv_cat _) xal0)) (by decide)) (xfr g25) (xlo xsw0 (by decide) g26) (xKr hq (fun x28 h27 hq e29 => ?_) (fun _ _ q _ => q))
    replace hq := hq e29
    exact x_aret rfl xty_O dX5_typeOf_71 hq
  replace hq := hq.2
  by_cases c30 : (fI h x1 3840) = 10
  · replace hq := hq.1 c30
    refine x_tin (tgt := 72) (off := 68) 10 c30 dX5_typeOf_4 (by decide) (by decide) (by decide) (by decide) ?_
    refine x_aload_n 0 dX5_typeOf_72 rfl ?_
    refine x_aload_n 1 dX5_typeOf_73 rfl ?_
    obtain ⟨g31, hq⟩ := hq
    obtain ⟨g32, g33, hq⟩ := hq
    refine x_callV (Yc := YX5_record) (as := [rv x1]) (st := []) q2306 mvX5_record g31 rfl dX5_typeOf_74 (xle (xal1 (rv_cat _) (xal1 (rv_cat _) xal0)) (by decide)) (xfr g32) (xlo xsw0 (by decide) g33) (xKr hq (fun x35 h34 hq e36 => ?_) (fun _ _ q _ => q))
    replace hq := hq e36
    exact x_aret rfl xty_O dX5_typeOf_77 hq
  replace hq := hq.2
  by_cases c37 : (fI h x1 3840) = 11
  · replace hq := hq.1 c37
    refine x_tin (tgt := 78) (off := 74) 11 c37 dX5_typeOf_4 (by decide) (by decide) (by decide) (by decide) ?_
    refine x_aload_n 0 dX5_typeOf_78 rfl ?_
    refine x_aload_n 1 dX5_typeOf_79 rfl ?_
    obtain ⟨g38, hq⟩ := hq
    obtain ⟨g39, g40, hq⟩ := hq
    refine x_callV (Yc := YX5_set) (as := [rv x1]) (st := []) q2414 mvX5_set g38 rfl dX5_typeOf_80 (xle (xal1 (rv_cat _) (xal1 (rv_cat _) xal0)) (by decide)) (xfr g39) (xlo xsw0 (by decide) g40) (xKr hq (fun x42 h41 hq e43 => ?_) (fun _ _ q _ => q))
    replace hq := hq e43
    exact x_aret rfl xty_O dX5_typeOf_83 hq
  replace hq := hq.2
  by_cases c44 : (fI h x1 3840) = 12
  · replace hq := hq.1 c44
    refine x_tin (tgt := 84) (off := 80) 12 c44 dX5_typeOf_4 (by decide) (by decide) (by decide) (by decide) ?_
    obtain ⟨g45, g46, hq⟩ := hq
    obtain ⟨a47, e49⟩ : ∃ y, y = nx h + 1 := ⟨_, rfl⟩
    obtain ⟨h48, e50⟩ : ∃ y, y = nO h 7 9 := ⟨_, rfl⟩
    refine x_new' cdX5_9 dX5_typeOf_84 g45 g46 e49 e50 (fun f51 => ?_)
    replace hq := hq a47 h48 e49 e50 f51
    have t52 : tg h48 a47 = 7 := by rw [e50, e49]; exact tg_nO
    refine x_dup dX5_typeOf_87 (rv_cat _) ?_
    refine x_bipush (v := 10) dX5_typeOf_88 (by decide) ?_
    obtain ⟨g53, g54, hq⟩ := hq
    refine x_callI (Yc := YX6_init) (as := [.int 10]) (st := [rv a47]) q689 miX6_init (by rw [t52]; decide) rfl dX5_typeOf_90 (xle (xal1 (rv_cat _) (xal1 rfl xal0)) (by decide)) (xfr g53) (xlo (xsw1 (rv_cat _) xsw0) (by decide) g54) (xKv hq (fun h55 hq e57 => ?_) (fun _ _ q _ => q))
    replace hq := hq e57
    refine x_aload_n 0 dX5_typeOf_93 rfl ?_
    refine x_aload_n 1 dX5_typeOf_94 rfl ?_
    have t58 : tg h48 x1 = 16 := by rw [e50]; exact tg_nO_ne e49 f51 g1 (by decide)
    have t59 : tg h55 x1 = 16 := e57.tg t58 (by decide)
    refine x_getN (v := rv (fR h55 x1 3842)) gfX5_251 dX5_typeOf_95 t59 rfl ?_
    obtain ⟨g60, hq⟩ := hq
    obtain ⟨g61, g62, hq⟩ := hq
    refine x_callV (Yc := YX5_typeOf) (as := [rv (fR h55 x1 3842)]) (st := [rv a47]) q2272 mvX5_typeOf g60 rfl dX5_typeOf_98 (xle (xal1 (rv_cat _) (xal1 (rv_cat _) xal0)) (by decide)) (xfr g61) (xlo (xsw1 (rv_cat _) xsw0) (by decide) g62) (xKr hq (fun x64 h63 hq e65 => ?_) (fun _ _ q _ => q))
    replace hq := hq e65
    have t66 : tg h55 a47 = 7 := e57.tg t52 (by decide)
    have t67 : tg h63 a47 = 7 := e65.tg t66 (by decide)
    obtain ⟨g68, g69, hq⟩ := hq
    refine x_callV (Yc := YX6_of) (as := [rv x64]) (st := []) q740 mvX6_of t67 rfl dX5_typeOf_101 (xle (xal1 (rv_cat _) (xal1 (rv_cat _) xal0)) (by decide)) (xfr g68) (xlo xsw0 (by decide) g69) (xKr hq (fun x71 h70 hq e72 => ?_) (fun _ _ q _ => q))
    replace hq := hq e72
    refine x_astore_n (lv' := [(2, rv x71), (0, rv x0), (1, rv x1)]) dX5_typeOf_104 (by decide) (by first | rfl | (simp [rv_cat, Value.category]; done) | (simp [rv_cat, Value.category]; decide)) ?_
    refine x_aload_n 0 dX5_typeOf_105 rfl ?_
    obtain ⟨g73, hq⟩ := hq
    refine x_getN (v := rv (fR h70 x71 1538)) gfX5_286 dX5_typeOf_106 g73 rfl ?_
    obtain ⟨g74, hq⟩ := hq
    refine x_getN (v := .int (fI h70 (fR h70 x71 1538) 1536)) gfX5_289 dX5_typeOf_109 g74 rfl ?_
    refine x_bipush (v := 10) dX5_typeOf_112 (by decide) ?_
    refine x_icmp_ne (tgt := 128) dX5_typeOf_114 (by decide) (fun c75 => ?_) (fun c75 => ?_)
    · replace hq := hq.1 c75
      refine x_aload_n 0 dX5_typeOf_128 rfl ?_
      refine x_iconst (v := 1) dX5_typeOf_129 (by decide) ?_
      refine x_aload_n 0 dX5_typeOf_130 rfl ?_
      refine x_getN (v := rv (fR h70 x71 1538)) gfX5_286 dX5_typeOf_131 g73 rfl ?_
      refine x_getN (v := .int (fI h70 (fR h70 x71 1538) 1543)) gfX5_66 dX5_typeOf_134 g74 rfl ?_
      refine x_iadd dX5_typeOf_137 ?_
      obtain ⟨h76, e77⟩ : ∃ y, y = sI h70 x71 1543 (1 + (fI h70 (fR h70 x71 1538) 1543)) := ⟨_, rfl⟩
      replace hq := hq h76 e77
      refine x_putNI gfX5_66 xty_I1 dX5_typeOf_138 g73 (Or.inl (by rw [g73]; rfl)) xnI rfl e77 ?_
      refine x_aload_n 0 dX5_typeOf_141 rfl ?_
      exact x_aret rfl xty_O dX5_typeOf_142 hq
    · replace hq := hq.2 c75
      refine x_aload_n 1 dX5_typeOf_117 rfl ?_
      refine x_bipush (v := 7) dX5_typeOf_118 (by decide) ?_
      refine x_aload_n 2 dX5_typeOf_120 rfl ?_
      have t78 : tg h63 x1 = 16 := e65.tg t59 (by decide)
      have t79 : tg h70 x1 = 16 := e72.tg t78 (by decide)
      obtain ⟨g80, g81, hq⟩ := hq
      refine x_callV (Yc := YX15_place) (as := []) (st := [.int 7, rv x0]) q2013 mvX15_place t79 rfl dX5_typeOf_121 (xle (xal1 (rv_cat _) xal0) (by decide)) (xfr g80) (xlo (xsw1 rfl (xsw1 (rv_cat _) xsw0)) (by decide) g81) (xKi hq (fun x83 h82 hq e84 => ?_) (fun _ _ q _ => q))
      replace hq := hq e84
      have t85 : tg h63 x0 = 6 := e65.tg g60 (by decide)
      have t86 : tg h70 x0 = 6 := e72.tg t85 (by decide)
      have t87 : tg h82 x0 = 6 := e84.tg t86 (by decide)
      obtain ⟨g88, g89, hq⟩ := hq
      refine x_callV (Yc := YX5_fault) (as := [.int 7, .int x83]) (st := []) q2087 mvX5_fault t87 rfl dX5_typeOf_124 (xle (xal1 (rv_cat _) (xal1 rfl (xal1 rfl xal0))) (by decide)) (xfr g88) (xlo xsw0 (by decide) g89) (xKr hq (fun x91 h90 hq e92 => ?_) (fun _ _ q _ => q))
      replace hq := hq e92
      obtain ⟨r93, g94, hq⟩ := hq
      rw [g94]
      exact x_athrow dX5_typeOf_127 hq
  replace hq := hq.2
  replace hq := hq c2 c9 c16 c23 c30 c37 c44
  have nc2 := lv_neT c2 (show (6 : Int32).toInt = 6 from by decide)
  have nc9 := lv_neT c9 (show (7 : Int32).toInt = 7 from by decide)
  have nc16 := lv_neT c16 (show (8 : Int32).toInt = 8 from by decide)
  have nc23 := lv_neT c23 (show (9 : Int32).toInt = 9 from by decide)
  have nc30 := lv_neT c30 (show (10 : Int32).toInt = 10 from by decide)
  have nc37 := lv_neT c37 (show (11 : Int32).toInt = 11 from by decide)
  have nc44 := lv_neT c44 (show (12 : Int32).toInt = 12 from by decide)
  refine x_tout (tgt := 143) dX5_typeOf_4 (by omega) (by decide) ?_
  refine x_aload_n 0 dX5_typeOf_143 rfl ?_
  refine x_aload_n 1 dX5_typeOf_144 rfl ?_
  obtain ⟨g95, hq⟩ := hq
  obtain ⟨g96, g97, hq⟩ := hq
  refine x_callV (Yc := YX5_pointer) (as := [rv x1]) (st := []) q2418 mvX5_pointer g95 rfl dX5_typeOf_145 (xle (xal1 (rv_cat _) (xal1 (rv_cat _) xal0)) (by decide)) (xfr g96) (xlo xsw0 (by decide) g97) (xKr hq (fun x99 h98 hq e100 => ?_) (fun _ _ q _ => q))
  replace hq := hq e100
  exact x_aret rfl xty_O dX5_typeOf_148 hq
theorem rX5_typeOf {G : xG} {fr lo : Nat} {x0 : Nat} {x1 : Nat} {h : xH} {Q : Outcome → xH → Prop} (hq : bX5_typeOf G fr lo x0 x1 h Q) : xR G YX5_typeOf fr lo [rv x0, rv x1] h Q := by
  show xP _ _ _ _ _ (lv_args 0 _) _ _ _
  rw [show lv_args 0 [rv x0, rv x1] = [(0, rv x0), (1, rv x1)] from (xla1 (rv_cat _) (xla1 (rv_cat _) xla0))]
  exact uX5_typeOf hq
set_option maxRecDepth 100000 in
theorem dX5_namedType_0 : decode cX5_namedType 0 = .ok (.aload_n 0, 1) := by decide +kernel
set_option maxRecDepth 100000 in
theorem dX5_namedType_1 : decode cX5_namedType 1 = .ok (.aload_n 1, 1) := by decide +kernel
set_option maxRecDepth 100000 in
theorem dX5_namedType_2 : decode cX5_namedType 2 = .ok (.iconst 1, 1) := by decide +kernel
set_option maxRecDepth 100000 in
theorem dX5_namedType_3 : decode cX5_namedType 3 = .ok (.invokevirtual 245, 3) := by decide +kernel
set_option maxRecDepth 100000 in
theorem dX5_namedType_6 : decode cX5_namedType 6 = .ok (.getfield 249, 3) := by decide +kernel
set_option maxRecDepth 100000 in
theorem dX5_namedType_9 : decode cX5_namedType 9 = .ok (.areturn, 1) := by decide +kernel
set_option maxRecDepth 100000 in
def bX5_namedType (G : xG) (fr lo : Nat) (x0 : Nat) (x1 : Nat) (h : xH) (Q : Outcome → xH → Prop) : Prop := tg h x0 = 6 ∧ 1 ≤ fr ∧ 15 ≤ lo ∧ xRr G YX5_findKind (fr - 1) (lo - 15) [rv x0, rv x1, .int 1] h (fun x5 h4 => xext h h4 → tg h4 x5 = 9 ∧ Q (.returned (some (rv (fR h4 x5 2050)))) h4) (fun r h2 => Q (.threw r) h2)
set_option maxRecDepth 100000 in
theorem uX5_namedType {G : xG} {fr lo : Nat} {x0 : Nat} {x1 : Nat} {h : xH} {Q : Outcome → xH → Prop} (hq : bX5_namedType G fr lo x0 x1 h Q) : xP G YX5_namedType fr lo 0 [(0, rv x0), (1, rv x1)] [] h Q := by
  unfold bX5_namedType at hq
  refine x_aload_n 0 dX5_namedType_0 rfl ?_
  refine x_aload_n 1 dX5_namedType_1 rfl ?_
  refine x_iconst (v := 1) dX5_namedType_2 (by decide) ?_
  obtain ⟨g1, hq⟩ := hq
  obtain ⟨g2, g3, hq⟩ := hq
  refine x_callV (Yc := YX5_findKind) (as := [rv x1, .int 1]) (st := []) q2242 mvX5_findKind g1 rfl dX5_namedType_3 (xle (xal1 (rv_cat _) (xal1 (rv_cat _) (xal1 rfl xal0))) (by decide)) (xfr g2) (xlo xsw0 (by decide) g3) (xKr hq (fun x5 h4 hq e6 => ?_) (fun _ _ q _ => q))
  replace hq := hq e6
  obtain ⟨g7, hq⟩ := hq
  refine x_getN (v := rv (fR h4 x5 2050)) gfX5_249 dX5_namedType_6 g7 rfl ?_
  exact x_aret rfl xty_O dX5_namedType_9 hq
theorem rX5_namedType {G : xG} {fr lo : Nat} {x0 : Nat} {x1 : Nat} {h : xH} {Q : Outcome → xH → Prop} (hq : bX5_namedType G fr lo x0 x1 h Q) : xR G YX5_namedType fr lo [rv x0, rv x1] h Q := by
  show xP _ _ _ _ _ (lv_args 0 _) _ _ _
  rw [show lv_args 0 [rv x0, rv x1] = [(0, rv x0), (1, rv x1)] from (xla1 (rv_cat _) (xla1 (rv_cat _) xla0))]
  exact uX5_namedType hq
set_option maxRecDepth 100000 in
theorem dX5_enumeration_0 : decode cX5_enumeration 0 = .ok (.new 9, 3) := by decide +kernel
set_option maxRecDepth 100000 in
theorem dX5_enumeration_3 : decode cX5_enumeration 3 = .ok (.dup, 1) := by decide +kernel
set_option maxRecDepth 100000 in
theorem dX5_enumeration_4 : decode cX5_enumeration 4 = .ok (.iconst 4, 1) := by decide +kernel
set_option maxRecDepth 100000 in
theorem dX5_enumeration_5 : decode cX5_enumeration 5 = .ok (.invokespecial 11, 3) := by decide +kernel
set_option maxRecDepth 100000 in
theorem dX5_enumeration_8 : decode cX5_enumeration 8 = .ok (.iconst 0, 1) := by decide +kernel
set_option maxRecDepth 100000 in
theorem dX5_enumeration_9 : decode cX5_enumeration 9 = .ok (.aload_n 1, 1) := by decide +kernel
set_option maxRecDepth 100000 in
theorem dX5_enumeration_10 : decode cX5_enumeration 10 = .ok (.getfield 293, 3) := by decide +kernel
set_option maxRecDepth 100000 in
theorem dX5_enumeration_13 : decode cX5_enumeration 13 = .ok (.iconst 1, 1) := by decide +kernel
set_option maxRecDepth 100000 in
theorem dX5_enumeration_14 : decode cX5_enumeration 14 = .ok (.isub, 1) := by decide +kernel
set_option maxRecDepth 100000 in
theorem dX5_enumeration_15 : decode cX5_enumeration 15 = .ok (.invokevirtual 16, 3) := by decide +kernel
set_option maxRecDepth 100000 in
theorem dX5_enumeration_18 : decode cX5_enumeration 18 = .ok (.astore_n 2, 1) := by decide +kernel
set_option maxRecDepth 100000 in
theorem dX5_enumeration_19 : decode cX5_enumeration 19 = .ok (.iconst 0, 1) := by decide +kernel
set_option maxRecDepth 100000 in
theorem dX5_enumeration_20 : decode cX5_enumeration 20 = .ok (.istore_n 3, 1) := by decide +kernel
set_option maxRecDepth 100000 in
theorem dX5_enumeration_21 : decode cX5_enumeration 21 = .ok (.aload_n 1, 1) := by decide +kernel
set_option maxRecDepth 100000 in
theorem dX5_enumeration_22 : decode cX5_enumeration 22 = .ok (.getfield 251, 3) := by decide +kernel
set_option maxRecDepth 100000 in
theorem dX5_enumeration_25 : decode cX5_enumeration 25 = .ok (.astore 4, 2) := by decide +kernel
set_option maxRecDepth 100000 in
theorem dX5_enumeration_27 : decode cX5_enumeration 27 = .ok (.aload 4, 2) := by decide +kernel
set_option maxRecDepth 100000 in
theorem dX5_enumeration_29 : decode cX5_enumeration 29 = .ok (.ifnull 43, 3) := by decide +kernel
set_option maxRecDepth 100000 in
theorem dX5_enumeration_32 : decode cX5_enumeration 32 = .ok (.aload_n 0, 1) := by decide +kernel
set_option maxRecDepth 100000 in
theorem dX5_enumeration_33 : decode cX5_enumeration 33 = .ok (.aload_n 0, 1) := by decide +kernel
set_option maxRecDepth 100000 in
theorem dX5_enumeration_34 : decode cX5_enumeration 34 = .ok (.getfield 296, 3) := by decide +kernel
set_option maxRecDepth 100000 in
theorem dX5_enumeration_37 : decode cX5_enumeration 37 = .ok (.getfield 300, 3) := by decide +kernel
set_option maxRecDepth 100000 in
theorem dX5_enumeration_40 : decode cX5_enumeration 40 = .ok (.aload_n 0, 1) := by decide +kernel
set_option maxRecDepth 100000 in
theorem dX5_enumeration_41 : decode cX5_enumeration 41 = .ok (.aload 4, 2) := by decide +kernel
set_option maxRecDepth 100000 in
theorem dX5_enumeration_43 : decode cX5_enumeration 43 = .ok (.invokevirtual 173, 3) := by decide +kernel
set_option maxRecDepth 100000 in
theorem dX5_enumeration_46 : decode cX5_enumeration 46 = .ok (.aload_n 2, 1) := by decide +kernel
set_option maxRecDepth 100000 in
theorem dX5_enumeration_47 : decode cX5_enumeration 47 = .ok (.iload_n 3, 1) := by decide +kernel
set_option maxRecDepth 100000 in
theorem dX5_enumeration_48 : decode cX5_enumeration 48 = .ok (.invokevirtual 143, 3) := by decide +kernel
set_option maxRecDepth 100000 in
theorem dX5_enumeration_51 : decode cX5_enumeration 51 = .ok (.aload 4, 2) := by decide +kernel
set_option maxRecDepth 100000 in
theorem dX5_enumeration_53 : decode cX5_enumeration 53 = .ok (.invokevirtual 192, 3) := by decide +kernel
set_option maxRecDepth 100000 in
theorem dX5_enumeration_56 : decode cX5_enumeration 56 = .ok (.invokevirtual 303, 3) := by decide +kernel
set_option maxRecDepth 100000 in
theorem dX5_enumeration_59 : decode cX5_enumeration 59 = .ok (.iinc 3 1, 3) := by decide +kernel
set_option maxRecDepth 100000 in
theorem dX5_enumeration_62 : decode cX5_enumeration 62 = .ok (.aload 4, 2) := by decide +kernel
set_option maxRecDepth 100000 in
theorem dX5_enumeration_64 : decode cX5_enumeration 64 = .ok (.getfield 307, 3) := by decide +kernel
set_option maxRecDepth 100000 in
theorem dX5_enumeration_67 : decode cX5_enumeration 67 = .ok (.astore 4, 2) := by decide +kernel
set_option maxRecDepth 100000 in
theorem dX5_enumeration_69 : decode cX5_enumeration 69 = .ok (.goto (-42), 3) := by decide +kernel
set_option maxRecDepth 100000 in
theorem dX5_enumeration_72 : decode cX5_enumeration 72 = .ok (.aload_n 2, 1) := by decide +kernel
set_option maxRecDepth 100000 in
theorem dX5_enumeration_73 : decode cX5_enumeration 73 = .ok (.areturn, 1) := by decide +kernel
def lX5_enumeration_27 (G : xG) (fr lo : Nat) (x0 : Nat) (x2 : Nat) (x3 : Int32) (x4 : Nat) (h : xH) (Q : Outcome → xH → Prop) : Prop := xP G YX5_enumeration fr lo 27 [(0, rv x0), (2, rv x2), (3, .int x3), (4, rv x4)] [] h Q
set_option maxRecDepth 100000 in
def bX5_enumeration_27 (G : xG) (fr lo : Nat) (x0 : Nat) (x2 : Nat) (x3 : Int32) (x4 : Nat) (h : xH) (Q : Outcome → xH → Prop) : Prop := ((x4 = 0 → Q (.returned (some (rv x2))) h) ∧ (¬ x4 = 0 → tg h x0 = 6 ∧ tg h (fR h x0 1294) = 18 ∧ tg h x4 = 16 ∧ 1 ≤ fr ∧ 15 ≤ lo ∧ xRr G YX15_text (fr - 1) (lo - 15) [rv x4] h (fun x8 h7 => xext h h7 → 1 ≤ fr ∧ 18 ≤ lo ∧ xRr G YX5_valueItem (fr - 1) (lo - 18) [rv x0, rv x8, rv x2, .int x3] h7 (fun x14 h13 => xext h7 h13 → 1 ≤ fr ∧ 15 ≤ lo ∧ xRi G YX15_place (fr - 1) (lo - 15) [rv x4] h13 (fun x21 h20 => xext h13 h20 → 1 ≤ fr ∧ 15 ≤ lo ∧ xRv G YX5_define (fr - 1) (lo - 15) [rv x0, rv (fR h (fR h x0 1294) 4354), rv x14, .int x21] h20 (fun h27 => xext h20 h27 → lX5_enumeration_27 G fr lo x0 x2 (x3 + 1) (fR h27 x4 3844) h27 Q) (fun r h2 => Q (.threw r) h2)) (fun r h2 => Q (.threw r) h2)) (fun r h2 => Q (.threw r) h2)) (fun r h2 => Q (.threw r) h2)))
set_option maxRecDepth 100000 in
theorem uX5_enumeration_27 {G : xG} {fr lo : Nat} {x0 : Nat} {x2 : Nat} {x3 : Int32} {x4 : Nat} {h : xH} {Q : Outcome → xH → Prop} (hq : bX5_enumeration_27 G fr lo x0 x2 x3 x4 h Q) : xP G YX5_enumeration fr lo 27 [(0, rv x0), (2, rv x2), (3, .int x3), (4, rv x4)] [] h Q := by
  unfold bX5_enumeration_27 at hq
  refine x_aload 3 dX5_enumeration_27 rfl ?_
  refine x_ifnull (tgt := 72) dX5_enumeration_29 (by decide) (fun c1 => ?_) (fun c1 => ?_)
  · replace hq := hq.1 c1
    refine x_aload_n 1 dX5_enumeration_72 rfl ?_
    exact x_aret rfl xty_O dX5_enumeration_73 hq
  · replace hq := hq.2 c1
    refine x_aload_n 0 dX5_enumeration_32 rfl ?_
    refine x_aload_n 0 dX5_enumeration_33 rfl ?_
    obtain ⟨g2, hq⟩ := hq
    refine x_get (v := rv (fR h x0 1294)) fdX5_296 dX5_enumeration_34 g2 rfl ?_
    obtain ⟨g3, hq⟩ := hq
    refine x_getN (v := rv (fR h (fR h x0 1294) 4354)) gfX5_300 dX5_enumeration_37 g3 rfl ?_
    refine x_aload_n 0 dX5_enumeration_40 rfl ?_
    refine x_aload 3 dX5_enumeration_41 rfl ?_
    obtain ⟨g4, hq⟩ := hq
    obtain ⟨g5, g6, hq⟩ := hq
    refine x_callV (Yc := YX15_text) (as := []) (st := [rv x0, rv (fR h (fR h x0 1294) 4354), rv x0]) q2009 mvX15_text g4 rfl dX5_enumeration_43 (xle (xal1 (rv_cat _) xal0) (by decide)) (xfr g5) (xlo (xsw1 (rv_cat _) (xsw1 (rv_cat _) (xsw1 (rv_cat _) xsw0))) (by decide) g6) (xKr hq (fun x8 h7 hq e9 => ?_) (fun _ _ q _ => q))
    replace hq := hq e9
    refine x_aload_n 1 dX5_enumeration_46 rfl ?_
    refine x_iload_n 2 dX5_enumeration_47 rfl ?_
    have t10 : tg h7 x0 = 6 := e9.tg g2 (by decide)
    obtain ⟨g11, g12, hq⟩ := hq
    refine x_callV (Yc := YX5_valueItem) (as := [rv x8, rv x2, .int x3]) (st := [rv (fR h (fR h x0 1294) 4354), rv x0]) q1099 mvX5_valueItem t10 rfl dX5_enumeration_48 (xle (xal1 (rv_cat _) (xal1 (rv_cat _) (xal1 (rv_cat _) (xal1 rfl xal0)))) (by decide)) (xfr g11) (xlo (xsw1 (rv_cat _) (xsw1 (rv_cat _) xsw0)) (by decide) g12) (xKr hq (fun x14 h13 hq e15 => ?_) (fun _ _ q _ => q))
    replace hq := hq e15
    refine x_aload 3 dX5_enumeration_51 rfl ?_
    have t16 : tg h7 x4 = 16 := e9.tg g4 (by decide)
    have t17 : tg h13 x4 = 16 := e15.tg t16 (by decide)
    obtain ⟨g18, g19, hq⟩ := hq
    refine x_callV (Yc := YX15_place) (as := []) (st := [rv x14, rv (fR h (fR h x0 1294) 4354), rv x0]) q2013 mvX15_place t17 rfl dX5_enumeration_53 (xle (xal1 (rv_cat _) xal0) (by decide)) (xfr g18) (xlo (xsw1 (rv_cat _) (xsw1 (rv_cat _) (xsw1 (rv_cat _) xsw0))) (by decide) g19) (xKi hq (fun x21 h20 hq e22 => ?_) (fun _ _ q _ => q))
    replace hq := hq e22
    have t23 : tg h13 x0 = 6 := e15.tg t10 (by decide)
    have t24 : tg h20 x0 = 6 := e22.tg t23 (by decide)
    obtain ⟨g25, g26, hq⟩ := hq
    refine x_callV (Yc := YX5_define) (as := [rv (fR h (fR h x0 1294) 4354), rv x14, .int x21]) (st := []) q2103 mvX5_define t24 rfl dX5_enumeration_56 (xle (xal1 (rv_cat _) (xal1 (rv_cat _) (xal1 (rv_cat _) (xal1 rfl xal0)))) (by decide)) (xfr g25) (xlo xsw0 (by decide) g26) (xKv hq (fun h27 hq e29 => ?_) (fun _ _ q _ => q))
    replace hq := hq e29
    refine x_iinc (lv' := [(3, .int (x3 + 1)), (0, rv x0), (2, rv x2), (4, rv x4)]) 2 dX5_enumeration_59 rfl (by decide) (by first | rfl | (simp [rv_cat, Value.category]; done) | (simp [rv_cat, Value.category]; decide)) ?_
    refine x_aload 3 dX5_enumeration_62 rfl ?_
    have t30 : tg h20 x4 = 16 := e22.tg t17 (by decide)
    have t31 : tg h27 x4 = 16 := e29.tg t30 (by decide)
    refine x_getN (v := rv (fR h27 x4 3844)) gfX5_307 dX5_enumeration_64 t31 rfl ?_
    refine x_astore (lv' := [(4, rv (fR h27 x4 3844)), (3, .int (x3 + 1)), (0, rv x0), (2, rv x2)]) dX5_enumeration_67 (by decide) rfl ?_
    refine x_goto (tgt := 27) dX5_enumeration_69 (by decide) ?_
    refine xP.pick (lv' := [(0, rv x0), (2, rv x2), (3, .int (x3 + 1)), (4, rv (fR h27 x4 3844))]) [2, 3, 1, 0] rfl ?_
    exact hq
set_option maxRecDepth 100000 in
def bX5_enumeration (G : xG) (fr lo : Nat) (x0 : Nat) (x1 : Nat) (h : xH) (Q : Outcome → xH → Prop) : Prop := nx h + 1 ≤ xGN G ∧ us h + 9 ≤ xGU G ∧ (∀ (a3 : Nat) (h4 : xH), a3 = nx h + 1 → h4 = nO h 7 9 → xfresh h a3 → 1 ≤ fr ∧ 14 ≤ lo ∧ xRv G YX6_init (fr - 1) (lo - 14) [rv a3, .int 4] h4 (fun h11 => xext h4 h11 → tg h11 x1 = 16 ∧ 1 ≤ fr ∧ 14 ≤ lo ∧ xRr G YX6_bounded (fr - 1) (lo - 14) [rv a3, .int 0, .int ((fI h11 x1 3845) - 1)] h11 (fun x19 h18 => xext h11 h18 → lX5_enumeration_27 G fr lo x0 x19 0 (fR h18 x1 3842) h18 Q) (fun r h2 => Q (.threw r) h2)) (fun r h2 => Q (.threw r) h2))
set_option maxRecDepth 100000 in
theorem uX5_enumeration {G : xG} {fr lo : Nat} {x0 : Nat} {x1 : Nat} {h : xH} {Q : Outcome → xH → Prop} (hq : bX5_enumeration G fr lo x0 x1 h Q) : xP G YX5_enumeration fr lo 0 [(0, rv x0), (1, rv x1)] [] h Q := by
  unfold bX5_enumeration at hq
  obtain ⟨g1, g2, hq⟩ := hq
  obtain ⟨a3, e5⟩ : ∃ y, y = nx h + 1 := ⟨_, rfl⟩
  obtain ⟨h4, e6⟩ : ∃ y, y = nO h 7 9 := ⟨_, rfl⟩
  refine x_new' cdX5_9 dX5_enumeration_0 g1 g2 e5 e6 (fun f7 => ?_)
  replace hq := hq a3 h4 e5 e6 f7
  have t8 : tg h4 a3 = 7 := by rw [e6, e5]; exact tg_nO
  refine x_dup dX5_enumeration_3 (rv_cat _) ?_
  refine x_iconst (v := 4) dX5_enumeration_4 (by decide) ?_
  obtain ⟨g9, g10, hq⟩ := hq
  refine x_callI (Yc := YX6_init) (as := [.int 4]) (st := [rv a3]) q689 miX6_init (by rw [t8]; decide) rfl dX5_enumeration_5 (xle (xal1 (rv_cat _) (xal1 rfl xal0)) (by decide)) (xfr g9) (xlo (xsw1 (rv_cat _) xsw0) (by decide) g10) (xKv hq (fun h11 hq e13 => ?_) (fun _ _ q _ => q))
  replace hq := hq e13
  refine x_iconst (v := 0) dX5_enumeration_8 (by decide) ?_
  refine x_aload_n 1 dX5_enumeration_9 rfl ?_
  obtain ⟨g14, hq⟩ := hq
  refine x_getN (v := .int (fI h11 x1 3845)) gfX5_293 dX5_enumeration_10 g14 rfl ?_
  refine x_iconst (v := 1) dX5_enumeration_13 (by decide) ?_
  refine x_isub dX5_enumeration_14 ?_
  have t15 : tg h11 a3 = 7 := e13.tg t8 (by decide)
  obtain ⟨g16, g17, hq⟩ := hq
  refine x_callV (Yc := YX6_bounded) (as := [.int 0, .int ((fI h11 x1 3845) - 1)]) (st := []) q736 mvX6_bounded t15 rfl dX5_enumeration_15 (xle (xal1 (rv_cat _) (xal1 rfl (xal1 rfl xal0))) (by decide)) (xfr g16) (xlo xsw0 (by decide) g17) (xKr hq (fun x19 h18 hq e20 => ?_) (fun _ _ q _ => q))
  replace hq := hq e20
  refine x_astore_n (lv' := [(2, rv x19), (0, rv x0), (1, rv x1)]) dX5_enumeration_18 (by decide) (by first | rfl | (simp [rv_cat, Value.category]; done) | (simp [rv_cat, Value.category]; decide)) ?_
  refine x_iconst (v := 0) dX5_enumeration_19 (by decide) ?_
  refine x_istore_n (lv' := [(3, .int 0), (2, rv x19), (0, rv x0), (1, rv x1)]) dX5_enumeration_20 (by decide) (by first | rfl | (simp [rv_cat, Value.category]; done) | (simp [rv_cat, Value.category]; decide)) ?_
  refine x_aload_n 3 dX5_enumeration_21 rfl ?_
  have t21 : tg h18 x1 = 16 := e20.tg g14 (by decide)
  refine x_getN (v := rv (fR h18 x1 3842)) gfX5_251 dX5_enumeration_22 t21 rfl ?_
  refine x_astore (lv' := [(4, rv (fR h18 x1 3842)), (3, .int 0), (2, rv x19), (0, rv x0), (1, rv x1)]) dX5_enumeration_25 (by decide) rfl ?_
  refine xP.pick (lv' := [(0, rv x0), (2, rv x19), (3, .int 0), (4, rv (fR h18 x1 3842))]) [3, 2, 1, 0] rfl ?_
  exact hq
theorem rX5_enumeration {G : xG} {fr lo : Nat} {x0 : Nat} {x1 : Nat} {h : xH} {Q : Outcome → xH → Prop} (hq : bX5_enumeration G fr lo x0 x1 h Q) : xR G YX5_enumeration fr lo [rv x0, rv x1] h Q := by
  show xP _ _ _ _ _ (lv_args 0 _) _ _ _
  rw [show lv_args 0 [rv x0, rv x1] = [(0, rv x0), (1, rv x1)] from (xla1 (rv_cat _) (xla1 (rv_cat _) xla0))]
  exact uX5_enumeration hq
set_option maxRecDepth 100000 in
theorem dX5_range_0 : decode cX5_range 0 = .ok (.aload_n 0, 1) := by decide +kernel
set_option maxRecDepth 100000 in
theorem dX5_range_1 : decode cX5_range 1 = .ok (.aload_n 1, 1) := by decide +kernel
set_option maxRecDepth 100000 in
theorem dX5_range_2 : decode cX5_range 2 = .ok (.iconst 0, 1) := by decide +kernel
set_option maxRecDepth 100000 in
theorem dX5_range_3 : decode cX5_range 3 = .ok (.invokevirtual 310, 3) := by decide +kernel
set_option maxRecDepth 100000 in
theorem dX5_range_6 : decode cX5_range 6 = .ok (.invokevirtual 314, 3) := by decide +kernel
set_option maxRecDepth 100000 in
theorem dX5_range_9 : decode cX5_range 9 = .ok (.aload_n 0, 1) := by decide +kernel
set_option maxRecDepth 100000 in
theorem dX5_range_10 : decode cX5_range 10 = .ok (.getfield 216, 3) := by decide +kernel
set_option maxRecDepth 100000 in
theorem dX5_range_13 : decode cX5_range 13 = .ok (.astore_n 2, 1) := by decide +kernel
set_option maxRecDepth 100000 in
theorem dX5_range_14 : decode cX5_range 14 = .ok (.aload_n 0, 1) := by decide +kernel
set_option maxRecDepth 100000 in
theorem dX5_range_15 : decode cX5_range 15 = .ok (.getfield 222, 3) := by decide +kernel
set_option maxRecDepth 100000 in
theorem dX5_range_18 : decode cX5_range 18 = .ok (.istore_n 3, 1) := by decide +kernel
set_option maxRecDepth 100000 in
theorem dX5_range_19 : decode cX5_range 19 = .ok (.aload_n 0, 1) := by decide +kernel
set_option maxRecDepth 100000 in
theorem dX5_range_20 : decode cX5_range 20 = .ok (.aload_n 1, 1) := by decide +kernel
set_option maxRecDepth 100000 in
theorem dX5_range_21 : decode cX5_range 21 = .ok (.iconst 1, 1) := by decide +kernel
set_option maxRecDepth 100000 in
theorem dX5_range_22 : decode cX5_range 22 = .ok (.invokevirtual 310, 3) := by decide +kernel
set_option maxRecDepth 100000 in
theorem dX5_range_25 : decode cX5_range 25 = .ok (.invokevirtual 314, 3) := by decide +kernel
set_option maxRecDepth 100000 in
theorem dX5_range_28 : decode cX5_range 28 = .ok (.aload_n 2, 1) := by decide +kernel
set_option maxRecDepth 100000 in
theorem dX5_range_29 : decode cX5_range 29 = .ok (.invokevirtual 318, 3) := by decide +kernel
set_option maxRecDepth 100000 in
theorem dX5_range_32 : decode cX5_range 32 = .ok (.ifCond .eq 11, 3) := by decide +kernel
set_option maxRecDepth 100000 in
theorem dX5_range_35 : decode cX5_range 35 = .ok (.aload_n 2, 1) := by decide +kernel
set_option maxRecDepth 100000 in
theorem dX5_range_36 : decode cX5_range 36 = .ok (.aload_n 0, 1) := by decide +kernel
set_option maxRecDepth 100000 in
theorem dX5_range_37 : decode cX5_range 37 = .ok (.getfield 216, 3) := by decide +kernel
set_option maxRecDepth 100000 in
theorem dX5_range_40 : decode cX5_range 40 = .ok (.if_acmp .eq 14, 3) := by decide +kernel
set_option maxRecDepth 100000 in
theorem dX5_range_43 : decode cX5_range 43 = .ok (.aload_n 0, 1) := by decide +kernel
set_option maxRecDepth 100000 in
theorem dX5_range_44 : decode cX5_range 44 = .ok (.bipush 7, 2) := by decide +kernel
set_option maxRecDepth 100000 in
theorem dX5_range_46 : decode cX5_range 46 = .ok (.aload_n 1, 1) := by decide +kernel
set_option maxRecDepth 100000 in
theorem dX5_range_47 : decode cX5_range 47 = .ok (.invokevirtual 192, 3) := by decide +kernel
set_option maxRecDepth 100000 in
theorem dX5_range_50 : decode cX5_range 50 = .ok (.invokevirtual 163, 3) := by decide +kernel
set_option maxRecDepth 100000 in
theorem dX5_range_53 : decode cX5_range 53 = .ok (.athrow, 1) := by decide +kernel
set_option maxRecDepth 100000 in
theorem dX5_range_54 : decode cX5_range 54 = .ok (.iload_n 3, 1) := by decide +kernel
set_option maxRecDepth 100000 in
theorem dX5_range_55 : decode cX5_range 55 = .ok (.aload_n 0, 1) := by decide +kernel
set_option maxRecDepth 100000 in
theorem dX5_range_56 : decode cX5_range 56 = .ok (.getfield 222, 3) := by decide +kernel
set_option maxRecDepth 100000 in
theorem dX5_range_59 : decode cX5_range 59 = .ok (.if_icmp .le 14, 3) := by decide +kernel
set_option maxRecDepth 100000 in
theorem dX5_range_62 : decode cX5_range 62 = .ok (.aload_n 0, 1) := by decide +kernel
set_option maxRecDepth 100000 in
theorem dX5_range_63 : decode cX5_range 63 = .ok (.bipush 8, 2) := by decide +kernel
set_option maxRecDepth 100000 in
theorem dX5_range_65 : decode cX5_range 65 = .ok (.aload_n 1, 1) := by decide +kernel
set_option maxRecDepth 100000 in
theorem dX5_range_66 : decode cX5_range 66 = .ok (.invokevirtual 192, 3) := by decide +kernel
set_option maxRecDepth 100000 in
theorem dX5_range_69 : decode cX5_range 69 = .ok (.invokevirtual 163, 3) := by decide +kernel
set_option maxRecDepth 100000 in
theorem dX5_range_72 : decode cX5_range 72 = .ok (.athrow, 1) := by decide +kernel
set_option maxRecDepth 100000 in
theorem dX5_range_73 : decode cX5_range 73 = .ok (.new 9, 3) := by decide +kernel
set_option maxRecDepth 100000 in
theorem dX5_range_76 : decode cX5_range 76 = .ok (.dup, 1) := by decide +kernel
set_option maxRecDepth 100000 in
theorem dX5_range_77 : decode cX5_range 77 = .ok (.iconst 5, 1) := by decide +kernel
set_option maxRecDepth 100000 in
theorem dX5_range_78 : decode cX5_range 78 = .ok (.invokespecial 11, 3) := by decide +kernel
set_option maxRecDepth 100000 in
theorem dX5_range_81 : decode cX5_range 81 = .ok (.iload_n 3, 1) := by decide +kernel
set_option maxRecDepth 100000 in
theorem dX5_range_82 : decode cX5_range 82 = .ok (.aload_n 0, 1) := by decide +kernel
set_option maxRecDepth 100000 in
theorem dX5_range_83 : decode cX5_range 83 = .ok (.getfield 222, 3) := by decide +kernel
set_option maxRecDepth 100000 in
theorem dX5_range_86 : decode cX5_range 86 = .ok (.invokevirtual 16, 3) := by decide +kernel
set_option maxRecDepth 100000 in
theorem dX5_range_89 : decode cX5_range 89 = .ok (.astore 4, 2) := by decide +kernel
set_option maxRecDepth 100000 in
theorem dX5_range_91 : decode cX5_range 91 = .ok (.aload 4, 2) := by decide +kernel
set_option maxRecDepth 100000 in
theorem dX5_range_93 : decode cX5_range 93 = .ok (.aload_n 2, 1) := by decide +kernel
set_option maxRecDepth 100000 in
theorem dX5_range_94 : decode cX5_range 94 = .ok (.putfield 321, 3) := by decide +kernel
set_option maxRecDepth 100000 in
theorem dX5_range_97 : decode cX5_range 97 = .ok (.aload 4, 2) := by decide +kernel
set_option maxRecDepth 100000 in
theorem dX5_range_99 : decode cX5_range 99 = .ok (.areturn, 1) := by decide +kernel
set_option maxRecDepth 100000 in
def bX5_range_43 (G : xG) (fr lo : Nat) (x0 : Nat) (x1 : Nat) (h : xH) (Q : Outcome → xH → Prop) : Prop := tg h x1 = 16 ∧ 1 ≤ fr ∧ 14 ≤ lo ∧ xRi G YX15_place (fr - 1) (lo - 14) [rv x1] h (fun x5 h4 => xext h h4 → tg h4 x0 = 6 ∧ 1 ≤ fr ∧ 14 ≤ lo ∧ xRr G YX5_fault (fr - 1) (lo - 14) [rv x0, .int 7, .int x5] h4 (fun x11 h10 => xext h4 h10 → (∃ r13, x11 = r13 + 1 ∧ Q (.threw r13) h10)) (fun r h2 => Q (.threw r) h2)) (fun r h2 => Q (.threw r) h2)
set_option maxRecDepth 100000 in
theorem uX5_range_43 {G : xG} {fr lo : Nat} {x0 : Nat} {x1 : Nat} {h : xH} {Q : Outcome → xH → Prop} (hq : bX5_range_43 G fr lo x0 x1 h Q) : xP G YX5_range fr lo 43 [(0, rv x0), (1, rv x1)] [] h Q := by
  unfold bX5_range_43 at hq
  refine x_aload_n 0 dX5_range_43 rfl ?_
  refine x_bipush (v := 7) dX5_range_44 (by decide) ?_
  refine x_aload_n 1 dX5_range_46 rfl ?_
  obtain ⟨g1, hq⟩ := hq
  obtain ⟨g2, g3, hq⟩ := hq
  refine x_callV (Yc := YX15_place) (as := []) (st := [.int 7, rv x0]) q2013 mvX15_place g1 rfl dX5_range_47 (xle (xal1 (rv_cat _) xal0) (by decide)) (xfr g2) (xlo (xsw1 rfl (xsw1 (rv_cat _) xsw0)) (by decide) g3) (xKi hq (fun x5 h4 hq e6 => ?_) (fun _ _ q _ => q))
  replace hq := hq e6
  obtain ⟨g7, hq⟩ := hq
  obtain ⟨g8, g9, hq⟩ := hq
  refine x_callV (Yc := YX5_fault) (as := [.int 7, .int x5]) (st := []) q2087 mvX5_fault g7 rfl dX5_range_50 (xle (xal1 (rv_cat _) (xal1 rfl (xal1 rfl xal0))) (by decide)) (xfr g8) (xlo xsw0 (by decide) g9) (xKr hq (fun x11 h10 hq e12 => ?_) (fun _ _ q _ => q))
  replace hq := hq e12
  obtain ⟨r13, g14, hq⟩ := hq
  rw [g14]
  exact x_athrow dX5_range_53 hq
set_option maxRecDepth 100000 in
def bX5_range (G : xG) (fr lo : Nat) (x0 : Nat) (x1 : Nat) (h : xH) (Q : Outcome → xH → Prop) : Prop := tg h x1 = 16 ∧ 1 ≤ fr ∧ 16 ≤ lo ∧ xRr G YX15_kid (fr - 1) (lo - 16) [rv x1, .int 0] h (fun x5 h4 => xext h h4 → tg h4 x0 = 6 ∧ 1 ≤ fr ∧ 15 ≤ lo ∧ xRv G YX5_constant (fr - 1) (lo - 15) [rv x0, rv x5] h4 (fun h10 => xext h4 h10 → 1 ≤ fr ∧ 16 ≤ lo ∧ xRr G YX15_kid (fr - 1) (lo - 16) [rv x1, .int 1] h10 (fun x19 h18 => xext h10 h18 → 1 ≤ fr ∧ 15 ≤ lo ∧ xRv G YX5_constant (fr - 1) (lo - 15) [rv x0, rv x19] h18 (fun h24 => xext h18 h24 → tg h24 (fR h10 x0 1296) = 7 ∧ 1 ≤ fr ∧ 12 ≤ lo ∧ xRi G YX6_isOrdinal (fr - 1) (lo - 12) [rv (fR h10 x0 1296)] h24 (fun x31 h30 => xext h24 h30 → ((x31 = 0 → bX5_range_43 G fr lo x0 x1 h30 Q) ∧ (¬ x31 = 0 → (((fR h10 x0 1296) = (fR h30 x0 1296) → (((fI h10 x0 1297) ≤ (fI h30 x0 1297) → nx h30 + 1 ≤ xGN G ∧ us h30 + 9 ≤ xGU G ∧ (∀ (a40 : Nat) (h41 : xH), a40 = nx h30 + 1 → h41 = nO h30 7 9 → xfresh h30 a40 → 1 ≤ fr ∧ 14 ≤ lo ∧ xRv G YX6_init (fr - 1) (lo - 14) [rv a40, .int 5] h41 (fun h48 => xext h41 h48 → 1 ≤ fr ∧ 14 ≤ lo ∧ xRr G YX6_bounded (fr - 1) (lo - 14) [rv a40, .int (fI h10 x0 1297), .int (fI h48 x0 1297)] h48 (fun x57 h56 => xext h48 h56 → tg h56 x57 = 7 ∧ (∀ h60 : xH, h60 = sR h56 x57 1537 (fR h10 x0 1296) → Q (.returned (some (rv x57))) h60)) (fun r h2 => Q (.threw r) h2)) (fun r h2 => Q (.threw r) h2))) ∧ (¬ (fI h10 x0 1297) ≤ (fI h30 x0 1297) → 1 ≤ fr ∧ 14 ≤ lo ∧ xRi G YX15_place (fr - 1) (lo - 14) [rv x1] h30 (fun x68 h67 => xext h30 h67 → 1 ≤ fr ∧ 14 ≤ lo ∧ xRr G YX5_fault (fr - 1) (lo - 14) [rv x0, .int 8, .int x68] h67 (fun x74 h73 => xext h67 h73 → (∃ r76, x74 = r76 + 1 ∧ Q (.threw r76) h73)) (fun r h2 => Q (.threw r) h2)) (fun r h2 => Q (.threw r) h2)))) ∧ (¬ (fR h10 x0 1296) = (fR h30 x0 1296) → bX5_range_43 G fr lo x0 x1 h30 Q))))) (fun r h2 => Q (.threw r) h2)) (fun r h2 => Q (.threw r) h2)) (fun r h2 => Q (.threw r) h2)) (fun r h2 => Q (.threw r) h2)) (fun r h2 => Q (.threw r) h2)
set_option maxRecDepth 100000 in
theorem uX5_range {G : xG} {fr lo : Nat} {x0 : Nat} {x1 : Nat} {h : xH} {Q : Outcome → xH → Prop} (hq : bX5_range G fr lo x0 x1 h Q) : xP G YX5_range fr lo 0 [(0, rv x0), (1, rv x1)] [] h Q := by
  unfold bX5_range at hq
  refine x_aload_n 0 dX5_range_0 rfl ?_
  refine x_aload_n 1 dX5_range_1 rfl ?_
  refine x_iconst (v := 0) dX5_range_2 (by decide) ?_
  obtain ⟨g1, hq⟩ := hq
  obtain ⟨g2, g3, hq⟩ := hq
  refine x_callV (Yc := YX15_kid) (as := [.int 0]) (st := [rv x0]) q2129 mvX15_kid g1 rfl dX5_range_3 (xle (xal1 (rv_cat _) (xal1 rfl xal0)) (by decide)) (xfr g2) (xlo (xsw1 (rv_cat _) xsw0) (by decide) g3) (xKr hq (fun x5 h4 hq e6 => ?_) (fun _ _ q _ => q))
  replace hq := hq e6
  obtain ⟨g7, hq⟩ := hq
  obtain ⟨g8, g9, hq⟩ := hq
  refine x_callV (Yc := YX5_constant) (as := [rv x5]) (st := []) q2229 mvX5_constant g7 rfl dX5_range_6 (xle (xal1 (rv_cat _) (xal1 (rv_cat _) xal0)) (by decide)) (xfr g8) (xlo xsw0 (by decide) g9) (xKv hq (fun h10 hq e12 => ?_) (fun _ _ q _ => q))
  replace hq := hq e12
  refine x_aload_n 0 dX5_range_9 rfl ?_
  have t13 : tg h10 x0 = 6 := e12.tg g7 (by decide)
  refine x_get (v := rv (fR h10 x0 1296)) fdX5_216 dX5_range_10 t13 rfl ?_
  refine x_astore_n (lv' := [(2, rv (fR h10 x0 1296)), (0, rv x0), (1, rv x1)]) dX5_range_13 (by decide) (by first | rfl | (simp [rv_cat, Value.category]; done) | (simp [rv_cat, Value.category]; decide)) ?_
  refine x_aload_n 1 dX5_range_14 rfl ?_
  refine x_get (v := .int (fI h10 x0 1297)) fdX5_222 dX5_range_15 t13 rfl ?_
  refine x_istore_n (lv' := [(3, .int (fI h10 x0 1297)), (2, rv (fR h10 x0 1296)), (0, rv x0), (1, rv x1)]) dX5_range_18 (by decide) (by first | rfl | (simp [rv_cat, Value.category]; done) | (simp [rv_cat, Value.category]; decide)) ?_
  refine x_aload_n 2 dX5_range_19 rfl ?_
  refine x_aload_n 3 dX5_range_20 rfl ?_
  refine x_iconst (v := 1) dX5_range_21 (by decide) ?_
  have t14 : tg h4 x1 = 16 := e6.tg g1 (by decide)
  have t15 : tg h10 x1 = 16 := e12.tg t14 (by decide)
  obtain ⟨g16, g17, hq⟩ := hq
  refine x_callV (Yc := YX15_kid) (as := [.int 1]) (st := [rv x0]) q2129 mvX15_kid t15 rfl dX5_range_22 (xle (xal1 (rv_cat _) (xal1 rfl xal0)) (by decide)) (xfr g16) (xlo (xsw1 (rv_cat _) xsw0) (by decide) g17) (xKr hq (fun x19 h18 hq e20 => ?_) (fun _ _ q _ => q))
  replace hq := hq e20
  have t21 : tg h18 x0 = 6 := e20.tg t13 (by decide)
  obtain ⟨g22, g23, hq⟩ := hq
  refine x_callV (Yc := YX5_constant) (as := [rv x19]) (st := []) q2229 mvX5_constant t21 rfl dX5_range_25 (xle (xal1 (rv_cat _) (xal1 (rv_cat _) xal0)) (by decide)) (xfr g22) (xlo xsw0 (by decide) g23) (xKv hq (fun h24 hq e26 => ?_) (fun _ _ q _ => q))
  replace hq := hq e26
  refine x_aload_n 1 dX5_range_28 rfl ?_
  obtain ⟨g27, hq⟩ := hq
  obtain ⟨g28, g29, hq⟩ := hq
  refine x_callV (Yc := YX6_isOrdinal) (as := []) (st := []) q2288 mvX6_isOrdinal g27 rfl dX5_range_29 (xle (xal1 (rv_cat _) xal0) (by decide)) (xfr g28) (xlo xsw0 (by decide) g29) (xKi hq (fun x31 h30 hq e32 => ?_) (fun _ _ q _ => q))
  replace hq := hq e32
  refine x_if_eq (tgt := 43) dX5_range_32 (by decide) (fun c33 => ?_) (fun c33 => ?_)
  · replace hq := hq.1 c33
    refine xP.pick (lv' := [(0, rv x0), (1, rv x1)]) [2, 3] rfl ?_
    exact uX5_range_43 hq
  · replace hq := hq.2 c33
    refine x_aload_n 1 dX5_range_35 rfl ?_
    refine x_aload_n 2 dX5_range_36 rfl ?_
    have t34 : tg h24 x0 = 6 := e26.tg t21 (by decide)
    have t35 : tg h30 x0 = 6 := e32.tg t34 (by decide)
    refine x_get (v := rv (fR h30 x0 1296)) fdX5_216 dX5_range_37 t35 rfl ?_
    refine x_acmp_eq (tgt := 54) dX5_range_40 (by decide) (fun c36 => ?_) (fun c36 => ?_)
    · replace hq := hq.1 c36
      refine x_iload_n 0 dX5_range_54 rfl ?_
      refine x_aload_n 2 dX5_range_55 rfl ?_
      refine x_get (v := .int (fI h30 x0 1297)) fdX5_222 dX5_range_56 t35 rfl ?_
      refine x_icmp_le (tgt := 73) dX5_range_59 (by decide) (fun c37 => ?_) (fun c37 => ?_)
      · replace hq := hq.1 c37
        obtain ⟨g38, g39, hq⟩ := hq
        obtain ⟨a40, e42⟩ : ∃ y, y = nx h30 + 1 := ⟨_, rfl⟩
        obtain ⟨h41, e43⟩ : ∃ y, y = nO h30 7 9 := ⟨_, rfl⟩
        refine x_new' cdX5_9 dX5_range_73 g38 g39 e42 e43 (fun f44 => ?_)
        replace hq := hq a40 h41 e42 e43 f44
        have t45 : tg h41 a40 = 7 := by rw [e43, e42]; exact tg_nO
        refine x_dup dX5_range_76 (rv_cat _) ?_
        refine x_iconst (v := 5) dX5_range_77 (by decide) ?_
        obtain ⟨g46, g47, hq⟩ := hq
        refine x_callI (Yc := YX6_init) (as := [.int 5]) (st := [rv a40]) q689 miX6_init (by rw [t45]; decide) rfl dX5_range_78 (xle (xal1 (rv_cat _) (xal1 rfl xal0)) (by decide)) (xfr g46) (xlo (xsw1 (rv_cat _) xsw0) (by decide) g47) (xKv hq (fun h48 hq e50 => ?_) (fun _ _ q _ => q))
        replace hq := hq e50
        refine x_iload_n 0 dX5_range_81 rfl ?_
        refine x_aload_n 2 dX5_range_82 rfl ?_
        have t51 : tg h41 x0 = 6 := by rw [e43]; exact tg_nO_ne e42 f44 t35 (by decide)
        have t52 : tg h48 x0 = 6 := e50.tg t51 (by decide)
        refine x_get (v := .int (fI h48 x0 1297)) fdX5_222 dX5_range_83 t52 rfl ?_
        have t53 : tg h48 a40 = 7 := e50.tg t45 (by decide)
        obtain ⟨g54, g55, hq⟩ := hq
        refine x_callV (Yc := YX6_bounded) (as := [.int (fI h10 x0 1297), .int (fI h48 x0 1297)]) (st := []) q736 mvX6_bounded t53 rfl dX5_range_86 (xle (xal1 (rv_cat _) (xal1 rfl (xal1 rfl xal0))) (by decide)) (xfr g54) (xlo xsw0 (by decide) g55) (xKr hq (fun x57 h56 hq e58 => ?_) (fun _ _ q _ => q))
        replace hq := hq e58
        refine x_astore (lv' := [(4, rv x57), (3, .int (fI h10 x0 1297)), (2, rv (fR h10 x0 1296)), (0, rv x0), (1, rv x1)]) dX5_range_89 (by decide) rfl ?_
        refine x_aload 0 dX5_range_91 rfl ?_
        refine x_aload_n 2 dX5_range_93 rfl ?_
        obtain ⟨g59, hq⟩ := hq
        obtain ⟨h60, e61⟩ : ∃ y, y = sR h56 x57 1537 (fR h10 x0 1296) := ⟨_, rfl⟩
        replace hq := hq h60 e61
        refine x_putNR gfX5_321 xty_O dX5_range_94 g59 (Or.inl (by rw [g59]; rfl)) rfl e61 ?_
        refine x_aload 0 dX5_range_97 rfl ?_
        exact x_aret rfl xty_O dX5_range_99 hq
      · replace hq := hq.2 c37
        refine x_aload_n 2 dX5_range_62 rfl ?_
        refine x_bipush (v := 8) dX5_range_63 (by decide) ?_
        refine x_aload_n 3 dX5_range_65 rfl ?_
        have t62 : tg h18 x1 = 16 := e20.tg t15 (by decide)
        have t63 : tg h24 x1 = 16 := e26.tg t62 (by decide)
        have t64 : tg h30 x1 = 16 := e32.tg t63 (by decide)
        obtain ⟨g65, g66, hq⟩ := hq
        refine x_callV (Yc := YX15_place) (as := []) (st := [.int 8, rv x0]) q2013 mvX15_place t64 rfl dX5_range_66 (xle (xal1 (rv_cat _) xal0) (by decide)) (xfr g65) (xlo (xsw1 rfl (xsw1 (rv_cat _) xsw0)) (by decide) g66) (xKi hq (fun x68 h67 hq e69 => ?_) (fun _ _ q _ => q))
        replace hq := hq e69
        have t70 : tg h67 x0 = 6 := e69.tg t35 (by decide)
        obtain ⟨g71, g72, hq⟩ := hq
        refine x_callV (Yc := YX5_fault) (as := [.int 8, .int x68]) (st := []) q2087 mvX5_fault t70 rfl dX5_range_69 (xle (xal1 (rv_cat _) (xal1 rfl (xal1 rfl xal0))) (by decide)) (xfr g71) (xlo xsw0 (by decide) g72) (xKr hq (fun x74 h73 hq e75 => ?_) (fun _ _ q _ => q))
        replace hq := hq e75
        obtain ⟨r76, g77, hq⟩ := hq
        rw [g77]
        exact x_athrow dX5_range_72 hq
    · replace hq := hq.2 c36
      refine xP.pick (lv' := [(0, rv x0), (1, rv x1)]) [2, 3] rfl ?_
      exact uX5_range_43 hq
theorem rX5_range {G : xG} {fr lo : Nat} {x0 : Nat} {x1 : Nat} {h : xH} {Q : Outcome → xH → Prop} (hq : bX5_range G fr lo x0 x1 h Q) : xR G YX5_range fr lo [rv x0, rv x1] h Q := by
  show xP _ _ _ _ _ (lv_args 0 _) _ _ _
  rw [show lv_args 0 [rv x0, rv x1] = [(0, rv x0), (1, rv x1)] from (xla1 (rv_cat _) (xla1 (rv_cat _) xla0))]
  exact uX5_range hq
set_option maxRecDepth 100000 in
theorem dX5_array_0 : decode cX5_array 0 = .ok (.aload_n 1, 1) := by decide +kernel
set_option maxRecDepth 100000 in
theorem dX5_array_1 : decode cX5_array 1 = .ok (.getfield 293, 3) := by decide +kernel
set_option maxRecDepth 100000 in
theorem dX5_array_4 : decode cX5_array 4 = .ok (.iconst 2, 1) := by decide +kernel
set_option maxRecDepth 100000 in
theorem dX5_array_5 : decode cX5_array 5 = .ok (.isub, 1) := by decide +kernel
set_option maxRecDepth 100000 in
theorem dX5_array_6 : decode cX5_array 6 = .ok (.istore_n 2, 1) := by decide +kernel
set_option maxRecDepth 100000 in
theorem dX5_array_7 : decode cX5_array 7 = .ok (.new 48, 3) := by decide +kernel
set_option maxRecDepth 100000 in
theorem dX5_array_10 : decode cX5_array 10 = .ok (.dup, 1) := by decide +kernel
set_option maxRecDepth 100000 in
theorem dX5_array_11 : decode cX5_array 11 = .ok (.iconst 1, 1) := by decide +kernel
set_option maxRecDepth 100000 in
theorem dX5_array_12 : decode cX5_array 12 = .ok (.invokespecial 50, 3) := by decide +kernel
set_option maxRecDepth 100000 in
theorem dX5_array_15 : decode cX5_array 15 = .ok (.astore_n 3, 1) := by decide +kernel
set_option maxRecDepth 100000 in
theorem dX5_array_16 : decode cX5_array 16 = .ok (.aload_n 1, 1) := by decide +kernel
set_option maxRecDepth 100000 in
theorem dX5_array_17 : decode cX5_array 17 = .ok (.getfield 251, 3) := by decide +kernel
set_option maxRecDepth 100000 in
theorem dX5_array_20 : decode cX5_array 20 = .ok (.astore 4, 2) := by decide +kernel
set_option maxRecDepth 100000 in
theorem dX5_array_22 : decode cX5_array 22 = .ok (.iconst 0, 1) := by decide +kernel
set_option maxRecDepth 100000 in
theorem dX5_array_23 : decode cX5_array 23 = .ok (.istore 5, 2) := by decide +kernel
set_option maxRecDepth 100000 in
theorem dX5_array_25 : decode cX5_array 25 = .ok (.iload 5, 2) := by decide +kernel
set_option maxRecDepth 100000 in
theorem dX5_array_27 : decode cX5_array 27 = .ok (.iload_n 2, 1) := by decide +kernel
set_option maxRecDepth 100000 in
theorem dX5_array_28 : decode cX5_array 28 = .ok (.if_icmp .ge 52, 3) := by decide +kernel
set_option maxRecDepth 100000 in
theorem dX5_array_31 : decode cX5_array 31 = .ok (.aload_n 0, 1) := by decide +kernel
set_option maxRecDepth 100000 in
theorem dX5_array_32 : decode cX5_array 32 = .ok (.aload 4, 2) := by decide +kernel
set_option maxRecDepth 100000 in
theorem dX5_array_34 : decode cX5_array 34 = .ok (.invokevirtual 283, 3) := by decide +kernel
set_option maxRecDepth 100000 in
theorem dX5_array_37 : decode cX5_array 37 = .ok (.astore 6, 2) := by decide +kernel
set_option maxRecDepth 100000 in
theorem dX5_array_39 : decode cX5_array 39 = .ok (.aload 6, 2) := by decide +kernel
set_option maxRecDepth 100000 in
theorem dX5_array_41 : decode cX5_array 41 = .ok (.invokevirtual 318, 3) := by decide +kernel
set_option maxRecDepth 100000 in
theorem dX5_array_44 : decode cX5_array 44 = .ok (.ifCond .ne 16, 3) := by decide +kernel
set_option maxRecDepth 100000 in
theorem dX5_array_47 : decode cX5_array 47 = .ok (.aload_n 0, 1) := by decide +kernel
set_option maxRecDepth 100000 in
theorem dX5_array_48 : decode cX5_array 48 = .ok (.bipush 7, 2) := by decide +kernel
set_option maxRecDepth 100000 in
theorem dX5_array_50 : decode cX5_array 50 = .ok (.aload_n 0, 1) := by decide +kernel
set_option maxRecDepth 100000 in
theorem dX5_array_51 : decode cX5_array 51 = .ok (.aload 4, 2) := by decide +kernel
set_option maxRecDepth 100000 in
theorem dX5_array_53 : decode cX5_array 53 = .ok (.invokevirtual 328, 3) := by decide +kernel
set_option maxRecDepth 100000 in
theorem dX5_array_56 : decode cX5_array 56 = .ok (.invokevirtual 163, 3) := by decide +kernel
set_option maxRecDepth 100000 in
theorem dX5_array_59 : decode cX5_array 59 = .ok (.athrow, 1) := by decide +kernel
set_option maxRecDepth 100000 in
theorem dX5_array_60 : decode cX5_array 60 = .ok (.aload_n 3, 1) := by decide +kernel
set_option maxRecDepth 100000 in
theorem dX5_array_61 : decode cX5_array 61 = .ok (.aload 6, 2) := by decide +kernel
set_option maxRecDepth 100000 in
theorem dX5_array_63 : decode cX5_array 63 = .ok (.invokevirtual 120, 3) := by decide +kernel
set_option maxRecDepth 100000 in
theorem dX5_array_66 : decode cX5_array 66 = .ok (.pop, 1) := by decide +kernel
set_option maxRecDepth 100000 in
theorem dX5_array_67 : decode cX5_array 67 = .ok (.aload 4, 2) := by decide +kernel
set_option maxRecDepth 100000 in
theorem dX5_array_69 : decode cX5_array 69 = .ok (.getfield 307, 3) := by decide +kernel
set_option maxRecDepth 100000 in
theorem dX5_array_72 : decode cX5_array 72 = .ok (.astore 4, 2) := by decide +kernel
set_option maxRecDepth 100000 in
theorem dX5_array_74 : decode cX5_array 74 = .ok (.iinc 5 1, 3) := by decide +kernel
set_option maxRecDepth 100000 in
theorem dX5_array_77 : decode cX5_array 77 = .ok (.goto (-52), 3) := by decide +kernel
set_option maxRecDepth 100000 in
theorem dX5_array_80 : decode cX5_array 80 = .ok (.aload_n 0, 1) := by decide +kernel
set_option maxRecDepth 100000 in
theorem dX5_array_81 : decode cX5_array 81 = .ok (.aload 4, 2) := by decide +kernel
set_option maxRecDepth 100000 in
theorem dX5_array_83 : decode cX5_array 83 = .ok (.getfield 307, 3) := by decide +kernel
set_option maxRecDepth 100000 in
theorem dX5_array_86 : decode cX5_array 86 = .ok (.invokevirtual 283, 3) := by decide +kernel
set_option maxRecDepth 100000 in
theorem dX5_array_89 : decode cX5_array 89 = .ok (.astore 5, 2) := by decide +kernel
set_option maxRecDepth 100000 in
theorem dX5_array_91 : decode cX5_array 91 = .ok (.aload 5, 2) := by decide +kernel
set_option maxRecDepth 100000 in
theorem dX5_array_93 : decode cX5_array 93 = .ok (.getfield 289, 3) := by decide +kernel
set_option maxRecDepth 100000 in
theorem dX5_array_96 : decode cX5_array 96 = .ok (.bipush 10, 2) := by decide +kernel
set_option maxRecDepth 100000 in
theorem dX5_array_98 : decode cX5_array 98 = .ok (.if_icmp .ne 15, 3) := by decide +kernel
set_option maxRecDepth 100000 in
theorem dX5_array_101 : decode cX5_array 101 = .ok (.aload_n 0, 1) := by decide +kernel
set_option maxRecDepth 100000 in
theorem dX5_array_102 : decode cX5_array 102 = .ok (.bipush 7, 2) := by decide +kernel
set_option maxRecDepth 100000 in
theorem dX5_array_104 : decode cX5_array 104 = .ok (.aload 4, 2) := by decide +kernel
set_option maxRecDepth 100000 in
theorem dX5_array_106 : decode cX5_array 106 = .ok (.invokevirtual 192, 3) := by decide +kernel
set_option maxRecDepth 100000 in
theorem dX5_array_109 : decode cX5_array 109 = .ok (.invokevirtual 163, 3) := by decide +kernel
set_option maxRecDepth 100000 in
theorem dX5_array_112 : decode cX5_array 112 = .ok (.athrow, 1) := by decide +kernel
set_option maxRecDepth 100000 in
theorem dX5_array_113 : decode cX5_array 113 = .ok (.iload_n 2, 1) := by decide +kernel
set_option maxRecDepth 100000 in
theorem dX5_array_114 : decode cX5_array 114 = .ok (.iconst 1, 1) := by decide +kernel
set_option maxRecDepth 100000 in
theorem dX5_array_115 : decode cX5_array 115 = .ok (.isub, 1) := by decide +kernel
set_option maxRecDepth 100000 in
theorem dX5_array_116 : decode cX5_array 116 = .ok (.istore 6, 2) := by decide +kernel
set_option maxRecDepth 100000 in
theorem dX5_array_118 : decode cX5_array 118 = .ok (.iload 6, 2) := by decide +kernel
set_option maxRecDepth 100000 in
theorem dX5_array_120 : decode cX5_array 120 = .ok (.ifCond .lt 95, 3) := by decide +kernel
set_option maxRecDepth 100000 in
theorem dX5_array_123 : decode cX5_array 123 = .ok (.aload_n 3, 1) := by decide +kernel
set_option maxRecDepth 100000 in
theorem dX5_array_124 : decode cX5_array 124 = .ok (.iload 6, 2) := by decide +kernel
set_option maxRecDepth 100000 in
theorem dX5_array_126 : decode cX5_array 126 = .ok (.invokevirtual 331, 3) := by decide +kernel
set_option maxRecDepth 100000 in
theorem dX5_array_129 : decode cX5_array 129 = .ok (.checkcast 9, 3) := by decide +kernel
set_option maxRecDepth 100000 in
theorem dX5_array_132 : decode cX5_array 132 = .ok (.astore 7, 2) := by decide +kernel
set_option maxRecDepth 100000 in
theorem dX5_array_134 : decode cX5_array 134 = .ok (.aload 7, 2) := by decide +kernel
set_option maxRecDepth 100000 in
theorem dX5_array_136 : decode cX5_array 136 = .ok (.getfield 335, 3) := by decide +kernel
set_option maxRecDepth 100000 in
theorem dX5_array_139 : decode cX5_array 139 = .ok (.i2l, 1) := by decide +kernel
set_option maxRecDepth 100000 in
theorem dX5_array_140 : decode cX5_array 140 = .ok (.aload 7, 2) := by decide +kernel
set_option maxRecDepth 100000 in
theorem dX5_array_142 : decode cX5_array 142 = .ok (.getfield 338, 3) := by decide +kernel
set_option maxRecDepth 100000 in
theorem dX5_array_145 : decode cX5_array 145 = .ok (.i2l, 1) := by decide +kernel
set_option maxRecDepth 100000 in
theorem dX5_array_146 : decode cX5_array 146 = .ok (.lsub, 1) := by decide +kernel
set_option maxRecDepth 100000 in
theorem dX5_array_147 : decode cX5_array 147 = .ok (.lconst 1, 1) := by decide +kernel
set_option maxRecDepth 100000 in
theorem dX5_array_148 : decode cX5_array 148 = .ok (.ladd, 1) := by decide +kernel
set_option maxRecDepth 100000 in
theorem dX5_array_149 : decode cX5_array 149 = .ok (.aload 5, 2) := by decide +kernel
set_option maxRecDepth 100000 in
theorem dX5_array_151 : decode cX5_array 151 = .ok (.getfield 66, 3) := by decide +kernel
set_option maxRecDepth 100000 in
theorem dX5_array_154 : decode cX5_array 154 = .ok (.i2l, 1) := by decide +kernel
set_option maxRecDepth 100000 in
theorem dX5_array_155 : decode cX5_array 155 = .ok (.lmul, 1) := by decide +kernel
set_option maxRecDepth 100000 in
theorem dX5_array_156 : decode cX5_array 156 = .ok (.lstore 8, 2) := by decide +kernel
set_option maxRecDepth 100000 in
theorem dX5_array_158 : decode cX5_array 158 = .ok (.lload 8, 2) := by decide +kernel
set_option maxRecDepth 100000 in
theorem dX5_array_160 : decode cX5_array 160 = .ok (.ldc2_w 341, 3) := by decide +kernel
set_option maxRecDepth 100000 in
theorem dX5_array_163 : decode cX5_array 163 = .ok (.lcmp, 1) := by decide +kernel
set_option maxRecDepth 100000 in
theorem dX5_array_164 : decode cX5_array 164 = .ok (.ifCond .le 14, 3) := by decide +kernel
set_option maxRecDepth 100000 in
theorem dX5_array_167 : decode cX5_array 167 = .ok (.aload_n 0, 1) := by decide +kernel
set_option maxRecDepth 100000 in
theorem dX5_array_168 : decode cX5_array 168 = .ok (.bipush 8, 2) := by decide +kernel
set_option maxRecDepth 100000 in
theorem dX5_array_170 : decode cX5_array 170 = .ok (.aload_n 1, 1) := by decide +kernel
set_option maxRecDepth 100000 in
theorem dX5_array_171 : decode cX5_array 171 = .ok (.invokevirtual 192, 3) := by decide +kernel
set_option maxRecDepth 100000 in
theorem dX5_array_174 : decode cX5_array 174 = .ok (.invokevirtual 163, 3) := by decide +kernel
set_option maxRecDepth 100000 in
theorem dX5_array_177 : decode cX5_array 177 = .ok (.athrow, 1) := by decide +kernel
set_option maxRecDepth 100000 in
theorem dX5_array_178 : decode cX5_array 178 = .ok (.new 9, 3) := by decide +kernel
set_option maxRecDepth 100000 in
theorem dX5_array_181 : decode cX5_array 181 = .ok (.dup, 1) := by decide +kernel
set_option maxRecDepth 100000 in
theorem dX5_array_182 : decode cX5_array 182 = .ok (.bipush 6, 2) := by decide +kernel
set_option maxRecDepth 100000 in
theorem dX5_array_184 : decode cX5_array 184 = .ok (.invokespecial 11, 3) := by decide +kernel
set_option maxRecDepth 100000 in
theorem dX5_array_187 : decode cX5_array 187 = .ok (.aload 5, 2) := by decide +kernel
set_option maxRecDepth 100000 in
theorem dX5_array_189 : decode cX5_array 189 = .ok (.invokevirtual 35, 3) := by decide +kernel
set_option maxRecDepth 100000 in
theorem dX5_array_192 : decode cX5_array 192 = .ok (.astore 5, 2) := by decide +kernel
set_option maxRecDepth 100000 in
theorem dX5_array_194 : decode cX5_array 194 = .ok (.aload 5, 2) := by decide +kernel
set_option maxRecDepth 100000 in
theorem dX5_array_196 : decode cX5_array 196 = .ok (.aload 7, 2) := by decide +kernel
set_option maxRecDepth 100000 in
theorem dX5_array_198 : decode cX5_array 198 = .ok (.putfield 343, 3) := by decide +kernel
set_option maxRecDepth 100000 in
theorem dX5_array_201 : decode cX5_array 201 = .ok (.aload 5, 2) := by decide +kernel
set_option maxRecDepth 100000 in
theorem dX5_array_203 : decode cX5_array 203 = .ok (.lload 8, 2) := by decide +kernel
set_option maxRecDepth 100000 in
theorem dX5_array_205 : decode cX5_array 205 = .ok (.l2i, 1) := by decide +kernel
set_option maxRecDepth 100000 in
theorem dX5_array_206 : decode cX5_array 206 = .ok (.putfield 66, 3) := by decide +kernel
set_option maxRecDepth 100000 in
theorem dX5_array_209 : decode cX5_array 209 = .ok (.iinc 6 (-1), 3) := by decide +kernel
set_option maxRecDepth 100000 in
theorem dX5_array_212 : decode cX5_array 212 = .ok (.goto (-94), 3) := by decide +kernel
set_option maxRecDepth 100000 in
theorem dX5_array_215 : decode cX5_array 215 = .ok (.aload 5, 2) := by decide +kernel
set_option maxRecDepth 100000 in
theorem dX5_array_217 : decode cX5_array 217 = .ok (.areturn, 1) := by decide +kernel
def lX5_array_25 (G : xG) (fr lo : Nat) (x0 : Nat) (x1 : Nat) (x2 : Int32) (x3 : Nat) (x4 : Nat) (x5 : Int32) (h : xH) (Q : Outcome → xH → Prop) : Prop := xP G YX5_array fr lo 25 [(0, rv x0), (1, rv x1), (2, .int x2), (3, rv x3), (4, rv x4), (5, .int x5)] [] h Q
def lX5_array_118 (G : xG) (fr lo : Nat) (x0 : Nat) (x1 : Nat) (x3 : Nat) (x5 : Nat) (x6 : Int32) (h : xH) (Q : Outcome → xH → Prop) : Prop := xP G YX5_array fr lo 118 [(0, rv x0), (1, rv x1), (3, rv x3), (5, rv x5), (6, .int x6)] [] h Q
set_option maxRecDepth 100000 in
def bX5_array_118 (G : xG) (fr lo : Nat) (x0 : Nat) (x1 : Nat) (x3 : Nat) (x5 : Nat) (x6 : Int32) (h : xH) (Q : Outcome → xH → Prop) : Prop := ((x6 < 0 → Q (.returned (some (rv x5))) h) ∧ (¬ x6 < 0 → tg h x3 = 29 ∧ 1 ≤ fr ∧ 13 ≤ lo ∧ xRr G YJ2_get (fr - 1) (lo - 13) [rv x3, .int x6] h (fun x6 h5 => xext h h5 → tg h5 x6 = 7 ∧ tg h5 x5 = 7 ∧ (((lg_cmp ((((Int32.toInt64 (fI h5 x6 1542)) - (Int32.toInt64 (fI h5 x6 1541))) + 1) * (Int32.toInt64 (fI h5 x5 1543))) 5000) ≤ 0 → nx h5 + 1 ≤ xGN G ∧ us h5 + 9 ≤ xGU G ∧ (∀ (a13 : Nat) (h14 : xH), a13 = nx h5 + 1 → h14 = nO h5 7 9 → xfresh h5 a13 → 1 ≤ fr ∧ 14 ≤ lo ∧ xRv G YX6_init (fr - 1) (lo - 14) [rv a13, .int 6] h14 (fun h21 => xext h14 h21 → 1 ≤ fr ∧ 13 ≤ lo ∧ xRr G YX6_of (fr - 1) (lo - 13) [rv a13, rv x5] h21 (fun x28 h27 => xext h21 h27 → tg h27 x28 = 7 ∧ (∀ h31 : xH, h31 = sR h27 x28 1539 x6 → (∀ h34 : xH, h34 = sI h31 x28 1543 (Int64.toInt32 ((((Int32.toInt64 (fI h5 x6 1542)) - (Int32.toInt64 (fI h5 x6 1541))) + 1) * (Int32.toInt64 (fI h5 x5 1543)))) → lX5_array_118 G fr lo x0 x1 x3 x28 (x6 + (-1)) h34 Q))) (fun r h2 => Q (.threw r) h2)) (fun r h2 => Q (.threw r) h2))) ∧ (¬ (lg_cmp ((((Int32.toInt64 (fI h5 x6 1542)) - (Int32.toInt64 (fI h5 x6 1541))) + 1) * (Int32.toInt64 (fI h5 x5 1543))) 5000) ≤ 0 → tg h5 x1 = 16 ∧ 1 ≤ fr ∧ 14 ≤ lo ∧ xRi G YX15_place (fr - 1) (lo - 14) [rv x1] h5 (fun x40 h39 => xext h5 h39 → tg h39 x0 = 6 ∧ 1 ≤ fr ∧ 14 ≤ lo ∧ xRr G YX5_fault (fr - 1) (lo - 14) [rv x0, .int 8, .int x40] h39 (fun x46 h45 => xext h39 h45 → (∃ r48, x46 = r48 + 1 ∧ Q (.threw r48) h45)) (fun r h2 => Q (.threw r) h2)) (fun r h2 => Q (.threw r) h2)))) (fun r h2 => Q (.threw r) h2)))
set_option maxRecDepth 100000 in
theorem uX5_array_118 {G : xG} {fr lo : Nat} {x0 : Nat} {x1 : Nat} {x3 : Nat} {x5 : Nat} {x6 : Int32} {h : xH} {Q : Outcome → xH → Prop} (hq : bX5_array_118 G fr lo x0 x1 x3 x5 x6 h Q) : xP G YX5_array fr lo 118 [(0, rv x0), (1, rv x1), (3, rv x3), (5, rv x5), (6, .int x6)] [] h Q := by
  unfold bX5_array_118 at hq
  refine x_iload 4 dX5_array_118 rfl ?_
  refine x_if_lt (tgt := 215) dX5_array_120 (by decide) (fun c1 => ?_) (fun c1 => ?_)
  · replace hq := hq.1 c1
    refine x_aload 3 dX5_array_215 rfl ?_
    exact x_aret rfl xty_O dX5_array_217 hq
  · replace hq := hq.2 c1
    refine x_aload_n 2 dX5_array_123 rfl ?_
    refine x_iload 4 dX5_array_124 rfl ?_
    obtain ⟨g2, hq⟩ := hq
    obtain ⟨g3, g4, hq⟩ := hq
    refine x_callV (Yc := YJ2_get) (as := [.int x6]) (st := []) q2304 mvJ2_get g2 rfl dX5_array_126 (xle (xal1 (rv_cat _) (xal1 rfl xal0)) (by decide)) (xfr g3) (xlo xsw0 (by decide) g4) (xKr hq (fun x6 h5 hq e7 => ?_) (fun _ _ q _ => q))
    replace hq := hq e7
    obtain ⟨g8, hq⟩ := hq
    refine x_cast (ci := 6) (by decide) rfl q687 g8 dX5_array_129 ?_
    refine x_astore (lv' := [(7, rv x6), (0, rv x0), (1, rv x1), (3, rv x3), (5, rv x5), (6, .int x6)]) dX5_array_132 (by decide) rfl ?_
    refine x_aload 0 dX5_array_134 rfl ?_
    refine x_getN (v := .int (fI h5 x6 1542)) gfX5_335 dX5_array_136 g8 rfl ?_
    refine x_i2l dX5_array_139 ?_
    refine x_aload 0 dX5_array_140 rfl ?_
    refine x_getN (v := .int (fI h5 x6 1541)) gfX5_338 dX5_array_142 g8 rfl ?_
    refine x_i2l dX5_array_145 ?_
    refine x_lsub dX5_array_146 ?_
    refine x_lconst (v := 1) dX5_array_147 (by decide) ?_
    refine x_ladd dX5_array_148 ?_
    refine x_aload 4 dX5_array_149 rfl ?_
    obtain ⟨g9, hq⟩ := hq
    refine x_getN (v := .int (fI h5 x5 1543)) gfX5_66 dX5_array_151 g9 rfl ?_
    refine x_i2l dX5_array_154 ?_
    refine x_lmul dX5_array_155 ?_
    refine x_lstore (lv' := [(8, .long ((((Int32.toInt64 (fI h5 x6 1542)) - (Int32.toInt64 (fI h5 x6 1541))) + 1) * (Int32.toInt64 (fI h5 x5 1543)))), (7, rv x6), (0, rv x0), (1, rv x1), (3, rv x3), (5, rv x5), (6, .int x6)]) dX5_array_156 (by decide) (by first | rfl | (simp [rv_cat, Value.category]; done) | (simp [rv_cat, Value.category]; decide)) ?_
    refine x_lload 0 dX5_array_158 rfl ?_
    refine x_ldc2 (v := 5000) q2305 dX5_array_160 ?_
    refine x_lcmp dX5_array_163 ?_
    refine x_if_le (tgt := 178) dX5_array_164 (by decide) (fun c10 => ?_) (fun c10 => ?_)
    · replace hq := hq.1 c10
      obtain ⟨g11, g12, hq⟩ := hq
      obtain ⟨a13, e15⟩ : ∃ y, y = nx h5 + 1 := ⟨_, rfl⟩
      obtain ⟨h14, e16⟩ : ∃ y, y = nO h5 7 9 := ⟨_, rfl⟩
      refine x_new' cdX5_9 dX5_array_178 g11 g12 e15 e16 (fun f17 => ?_)
      replace hq := hq a13 h14 e15 e16 f17
      have t18 : tg h14 a13 = 7 := by rw [e16, e15]; exact tg_nO
      refine x_dup dX5_array_181 (rv_cat _) ?_
      refine x_bipush (v := 6) dX5_array_182 (by decide) ?_
      obtain ⟨g19, g20, hq⟩ := hq
      refine x_callI (Yc := YX6_init) (as := [.int 6]) (st := [rv a13]) q689 miX6_init (by rw [t18]; decide) rfl dX5_array_184 (xle (xal1 (rv_cat _) (xal1 rfl xal0)) (by decide)) (xfr g19) (xlo (xsw1 (rv_cat _) xsw0) (by decide) g20) (xKv hq (fun h21 hq e23 => ?_) (fun _ _ q _ => q))
      replace hq := hq e23
      refine x_aload 5 dX5_array_187 rfl ?_
      have t24 : tg h21 a13 = 7 := e23.tg t18 (by decide)
      obtain ⟨g25, g26, hq⟩ := hq
      refine x_callV (Yc := YX6_of) (as := [rv x5]) (st := []) q740 mvX6_of t24 rfl dX5_array_189 (xle (xal1 (rv_cat _) (xal1 (rv_cat _) xal0)) (by decide)) (xfr g25) (xlo xsw0 (by decide) g26) (xKr hq (fun x28 h27 hq e29 => ?_) (fun _ _ q _ => q))
      replace hq := hq e29
      refine x_astore (lv' := [(5, rv x28), (8, .long ((((Int32.toInt64 (fI h5 x6 1542)) - (Int32.toInt64 (fI h5 x6 1541))) + 1) * (Int32.toInt64 (fI h5 x5 1543)))), (7, rv x6), (0, rv x0), (1, rv x1), (3, rv x3), (6, .int x6)]) dX5_array_192 (by decide) rfl ?_
      refine x_aload 0 dX5_array_194 rfl ?_
      refine x_aload 2 dX5_array_196 rfl ?_
      obtain ⟨g30, hq⟩ := hq
      obtain ⟨h31, e32⟩ : ∃ y, y = sR h27 x28 1539 x6 := ⟨_, rfl⟩
      replace hq := hq h31 e32
      refine x_putNR gfX5_343 xty_O dX5_array_198 g30 (Or.inl (by rw [g30]; rfl)) rfl e32 ?_
      refine x_aload 0 dX5_array_201 rfl ?_
      refine x_lload 1 dX5_array_203 rfl ?_
      refine x_l2i dX5_array_205 ?_
      have t33 : tg h31 x28 = 7 := by rw [e32]; exact g30
      obtain ⟨h34, e35⟩ : ∃ y, y = sI h31 x28 1543 (Int64.toInt32 ((((Int32.toInt64 (fI h5 x6 1542)) - (Int32.toInt64 (fI h5 x6 1541))) + 1) * (Int32.toInt64 (fI h5 x5 1543)))) := ⟨_, rfl⟩
      replace hq := hq h34 e35
      refine x_putNI gfX5_66 xty_I1 dX5_array_206 t33 (Or.inl (by rw [t33]; rfl)) xnI rfl e35 ?_
      refine x_iinc (lv' := [(6, .int (x6 + (-1))), (5, rv x28), (8, .long ((((Int32.toInt64 (fI h5 x6 1542)) - (Int32.toInt64 (fI h5 x6 1541))) + 1) * (Int32.toInt64 (fI h5 x5 1543)))), (7, rv x6), (0, rv x0), (1, rv x1), (3, rv x3)]) 6 dX5_array_209 rfl (by decide) (by first | rfl | (simp [rv_cat, Value.category]; done) | (simp [rv_cat, Value.category]; decide)) ?_
      refine x_goto (tgt := 118) dX5_array_212 (by decide) ?_
      refine xP.pick (lv' := [(0, rv x0), (1, rv x1), (3, rv x3), (5, rv x28), (6, .int (x6 + (-1)))]) [4, 5, 6, 1, 0] rfl ?_
      exact hq
    · replace hq := hq.2 c10
      refine x_aload_n 2 dX5_array_167 rfl ?_
      refine x_bipush (v := 8) dX5_array_168 (by decide) ?_
      refine x_aload_n 3 dX5_array_170 rfl ?_
      obtain ⟨g36, hq⟩ := hq
      obtain ⟨g37, g38, hq⟩ := hq
      refine x_callV (Yc := YX15_place) (as := []) (st := [.int 8, rv x0]) q2013 mvX15_place g36 rfl dX5_array_171 (xle (xal1 (rv_cat _) xal0) (by decide)) (xfr g37) (xlo (xsw1 rfl (xsw1 (rv_cat _) xsw0)) (by decide) g38) (xKi hq (fun x40 h39 hq e41 => ?_) (fun _ _ q _ => q))
      replace hq := hq e41
      obtain ⟨g42, hq⟩ := hq
      obtain ⟨g43, g44, hq⟩ := hq
      refine x_callV (Yc := YX5_fault) (as := [.int 8, .int x40]) (st := []) q2087 mvX5_fault g42 rfl dX5_array_174 (xle (xal1 (rv_cat _) (xal1 rfl (xal1 rfl xal0))) (by decide)) (xfr g43) (xlo xsw0 (by decide) g44) (xKr hq (fun x46 h45 hq e47 => ?_) (fun _ _ q _ => q))
      replace hq := hq e47
      obtain ⟨r48, g49, hq⟩ := hq
      rw [g49]
      exact x_athrow dX5_array_177 hq
set_option maxRecDepth 100000 in
def bX5_array_25 (G : xG) (fr lo : Nat) (x0 : Nat) (x1 : Nat) (x2 : Int32) (x3 : Nat) (x4 : Nat) (x5 : Int32) (h : xH) (Q : Outcome → xH → Prop) : Prop := ((x2 ≤ x5 → tg h x4 = 16 ∧ tg h x0 = 6 ∧ 1 ≤ fr ∧ 14 ≤ lo ∧ xRr G YX5_typeOf (fr - 1) (lo - 14) [rv x0, rv (fR h x4 3844)] h (fun x7 h6 => xext h h6 → tg h6 x7 = 7 ∧ ((¬ (fI h6 x7 1536) = 10 → lX5_array_118 G fr lo x0 x1 x3 x7 (x2 - 1) h6 Q) ∧ ((fI h6 x7 1536) = 10 → 1 ≤ fr ∧ 14 ≤ lo ∧ xRi G YX15_place (fr - 1) (lo - 14) [rv x4] h6 (fun x15 h14 => xext h6 h14 → 1 ≤ fr ∧ 14 ≤ lo ∧ xRr G YX5_fault (fr - 1) (lo - 14) [rv x0, .int 7, .int x15] h14 (fun x22 h21 => xext h14 h21 → (∃ r24, x22 = r24 + 1 ∧ Q (.threw r24) h21)) (fun r h2 => Q (.threw r) h2)) (fun r h2 => Q (.threw r) h2)))) (fun r h2 => Q (.threw r) h2)) ∧ (¬ x2 ≤ x5 → tg h x0 = 6 ∧ 1 ≤ fr ∧ 14 ≤ lo ∧ xRr G YX5_typeOf (fr - 1) (lo - 14) [rv x0, rv x4] h (fun x30 h29 => xext h h29 → tg h29 x30 = 7 ∧ 1 ≤ fr ∧ 12 ≤ lo ∧ xRi G YX6_isOrdinal (fr - 1) (lo - 12) [rv x30] h29 (fun x36 h35 => xext h29 h35 → ((¬ x36 = 0 → tg h35 x3 = 29 ∧ 1 ≤ fr ∧ 13 ≤ lo ∧ xRi G YJ2_add (fr - 1) (lo - 13) [rv x3, rv x30] h35 (fun x43 h42 => xext h35 h42 → tg h42 x4 = 16 ∧ lX5_array_25 G fr lo x0 x1 x2 x3 (fR h42 x4 3844) (x5 + 1) h42 Q) (fun r h2 => Q (.threw r) h2)) ∧ (x36 = 0 → 1 ≤ fr ∧ 15 ≤ lo ∧ xRi G YX5_firstOfSimple (fr - 1) (lo - 15) [rv x0, rv x4] h35 (fun x51 h50 => xext h35 h50 → 1 ≤ fr ∧ 14 ≤ lo ∧ xRr G YX5_fault (fr - 1) (lo - 14) [rv x0, .int 7, .int x51] h50 (fun x57 h56 => xext h50 h56 → (∃ r59, x57 = r59 + 1 ∧ Q (.threw r59) h56)) (fun r h2 => Q (.threw r) h2)) (fun r h2 => Q (.threw r) h2)))) (fun r h2 => Q (.threw r) h2)) (fun r h2 => Q (.threw r) h2)))
set_option maxRecDepth 100000 in
theorem uX5_array_25 {G : xG} {fr lo : Nat} {x0 : Nat} {x1 : Nat} {x2 : Int32} {x3 : Nat} {x4 : Nat} {x5 : Int32} {h : xH} {Q : Outcome → xH → Prop} (hq : bX5_array_25 G fr lo x0 x1 x2 x3 x4 x5 h Q) : xP G YX5_array fr lo 25 [(0, rv x0), (1, rv x1), (2, .int x2), (3, rv x3), (4, rv x4), (5, .int x5)] [] h Q := by
  unfold bX5_array_25 at hq
  refine x_iload 5 dX5_array_25 rfl ?_
  refine x_iload_n 2 dX5_array_27 rfl ?_
  refine x_icmp_ge (tgt := 80) dX5_array_28 (by decide) (fun c1 => ?_) (fun c1 => ?_)
  · replace hq := hq.1 c1
    refine x_aload_n 0 dX5_array_80 rfl ?_
    refine x_aload 4 dX5_array_81 rfl ?_
    obtain ⟨g2, hq⟩ := hq
    refine x_getN (v := rv (fR h x4 3844)) gfX5_307 dX5_array_83 g2 rfl ?_
    obtain ⟨g3, hq⟩ := hq
    obtain ⟨g4, g5, hq⟩ := hq
    refine x_callV (Yc := YX5_typeOf) (as := [rv (fR h x4 3844)]) (st := []) q2272 mvX5_typeOf g3 rfl dX5_array_86 (xle (xal1 (rv_cat _) (xal1 (rv_cat _) xal0)) (by decide)) (xfr g4) (xlo xsw0 (by decide) g5) (xKr hq (fun x7 h6 hq e8 => ?_) (fun _ _ q _ => q))
    replace hq := hq e8
    refine x_astore (lv' := [(5, rv x7), (0, rv x0), (1, rv x1), (2, .int x2), (3, rv x3), (4, rv x4)]) dX5_array_89 (by decide) (by first | rfl | (simp [rv_cat, Value.category]; done) | (simp [rv_cat, Value.category]; decide)) ?_
    refine x_aload 0 dX5_array_91 rfl ?_
    obtain ⟨g9, hq⟩ := hq
    refine x_getN (v := .int (fI h6 x7 1536)) gfX5_289 dX5_array_93 g9 rfl ?_
    refine x_bipush (v := 10) dX5_array_96 (by decide) ?_
    refine x_icmp_ne (tgt := 113) dX5_array_98 (by decide) (fun c10 => ?_) (fun c10 => ?_)
    · replace hq := hq.1 c10
      refine x_iload_n 3 dX5_array_113 rfl ?_
      refine x_iconst (v := 1) dX5_array_114 (by decide) ?_
      refine x_isub dX5_array_115 ?_
      refine x_istore (lv' := [(6, .int (x2 - 1)), (5, rv x7), (0, rv x0), (1, rv x1), (2, .int x2), (3, rv x3), (4, rv x4)]) dX5_array_116 (by decide) (by first | rfl | (simp [rv_cat, Value.category]; done) | (simp [rv_cat, Value.category]; decide)) ?_
      refine xP.pick (lv' := [(0, rv x0), (1, rv x1), (3, rv x3), (5, rv x7), (6, .int (x2 - 1))]) [2, 3, 5, 1, 0] rfl ?_
      exact hq
    · replace hq := hq.2 c10
      refine x_aload_n 1 dX5_array_101 rfl ?_
      refine x_bipush (v := 7) dX5_array_102 (by decide) ?_
      refine x_aload 5 dX5_array_104 rfl ?_
      have t11 : tg h6 x4 = 16 := e8.tg g2 (by decide)
      obtain ⟨g12, g13, hq⟩ := hq
      refine x_callV (Yc := YX15_place) (as := []) (st := [.int 7, rv x0]) q2013 mvX15_place t11 rfl dX5_array_106 (xle (xal1 (rv_cat _) xal0) (by decide)) (xfr g12) (xlo (xsw1 rfl (xsw1 (rv_cat _) xsw0)) (by decide) g13) (xKi hq (fun x15 h14 hq e16 => ?_) (fun _ _ q _ => q))
      replace hq := hq e16
      have t17 : tg h6 x0 = 6 := e8.tg g3 (by decide)
      have t18 : tg h14 x0 = 6 := e16.tg t17 (by decide)
      obtain ⟨g19, g20, hq⟩ := hq
      refine x_callV (Yc := YX5_fault) (as := [.int 7, .int x15]) (st := []) q2087 mvX5_fault t18 rfl dX5_array_109 (xle (xal1 (rv_cat _) (xal1 rfl (xal1 rfl xal0))) (by decide)) (xfr g19) (xlo xsw0 (by decide) g20) (xKr hq (fun x22 h21 hq e23 => ?_) (fun _ _ q _ => q))
      replace hq := hq e23
      obtain ⟨r24, g25, hq⟩ := hq
      rw [g25]
      exact x_athrow dX5_array_112 hq
  · replace hq := hq.2 c1
    refine x_aload_n 0 dX5_array_31 rfl ?_
    refine x_aload 4 dX5_array_32 rfl ?_
    obtain ⟨g26, hq⟩ := hq
    obtain ⟨g27, g28, hq⟩ := hq
    refine x_callV (Yc := YX5_typeOf) (as := [rv x4]) (st := []) q2272 mvX5_typeOf g26 rfl dX5_array_34 (xle (xal1 (rv_cat _) (xal1 (rv_cat _) xal0)) (by decide)) (xfr g27) (xlo xsw0 (by decide) g28) (xKr hq (fun x30 h29 hq e31 => ?_) (fun _ _ q _ => q))
    replace hq := hq e31
    refine x_astore (lv' := [(6, rv x30), (0, rv x0), (1, rv x1), (2, .int x2), (3, rv x3), (4, rv x4), (5, .int x5)]) dX5_array_37 (by decide) rfl ?_
    refine x_aload 0 dX5_array_39 rfl ?_
    obtain ⟨g32, hq⟩ := hq
    obtain ⟨g33, g34, hq⟩ := hq
    refine x_callV (Yc := YX6_isOrdinal) (as := []) (st := []) q2288 mvX6_isOrdinal g32 rfl dX5_array_41 (xle (xal1 (rv_cat _) xal0) (by decide)) (xfr g33) (xlo xsw0 (by decide) g34) (xKi hq (fun x36 h35 hq e37 => ?_) (fun _ _ q _ => q))
    replace hq := hq e37
    refine x_if_ne (tgt := 60) dX5_array_44 (by decide) (fun c38 => ?_) (fun c38 => ?_)
    · replace hq := hq.1 c38
      refine x_aload_n 4 dX5_array_60 rfl ?_
      refine x_aload 0 dX5_array_61 rfl ?_
      obtain ⟨g39, hq⟩ := hq
      obtain ⟨g40, g41, hq⟩ := hq
      refine x_callV (Yc := YJ2_add) (as := [rv x30]) (st := []) q1009 mvJ2_add g39 rfl dX5_array_63 (xle (xal1 (rv_cat _) (xal1 (rv_cat _) xal0)) (by decide)) (xfr g40) (xlo xsw0 (by decide) g41) (xKi hq (fun x43 h42 hq e44 => ?_) (fun _ _ q _ => q))
      replace hq := hq e44
      refine x_pop dX5_array_66 rfl ?_
      refine x_aload 5 dX5_array_67 rfl ?_
      obtain ⟨g45, hq⟩ := hq
      refine x_getN (v := rv (fR h42 x4 3844)) gfX5_307 dX5_array_69 g45 rfl ?_
      refine x_astore (lv' := [(4, rv (fR h42 x4 3844)), (6, rv x30), (0, rv x0), (1, rv x1), (2, .int x2), (3, rv x3), (5, .int x5)]) dX5_array_72 (by decide) (by first | rfl | (simp [rv_cat, Value.category]; done) | (simp [rv_cat, Value.category]; decide)) ?_
      refine x_iinc (lv' := [(5, .int (x5 + 1)), (4, rv (fR h42 x4 3844)), (6, rv x30), (0, rv x0), (1, rv x1), (2, .int x2), (3, rv x3)]) 6 dX5_array_74 rfl (by decide) (by first | rfl | (simp [rv_cat, Value.category]; done) | (simp [rv_cat, Value.category]; decide)) ?_
      refine x_goto (tgt := 25) dX5_array_77 (by decide) ?_
      refine xP.pick (lv' := [(0, rv x0), (1, rv x1), (2, .int x2), (3, rv x3), (4, rv (fR h42 x4 3844)), (5, .int (x5 + 1))]) [3, 4, 5, 6, 1, 0] rfl ?_
      exact hq
    · replace hq := hq.2 c38
      refine x_aload_n 1 dX5_array_47 rfl ?_
      refine x_bipush (v := 7) dX5_array_48 (by decide) ?_
      refine x_aload_n 1 dX5_array_50 rfl ?_
      refine x_aload 5 dX5_array_51 rfl ?_
      have t46 : tg h29 x0 = 6 := e31.tg g26 (by decide)
      have t47 : tg h35 x0 = 6 := e37.tg t46 (by decide)
      obtain ⟨g48, g49, hq⟩ := hq
      refine x_callV (Yc := YX5_firstOfSimple) (as := [rv x4]) (st := [.int 7, rv x0]) q2296 mvX5_firstOfSimple t47 rfl dX5_array_53 (xle (xal1 (rv_cat _) (xal1 (rv_cat _) xal0)) (by decide)) (xfr g48) (xlo (xsw1 rfl (xsw1 (rv_cat _) xsw0)) (by decide) g49) (xKi hq (fun x51 h50 hq e52 => ?_) (fun _ _ q _ => q))
      replace hq := hq e52
      have t53 : tg h50 x0 = 6 := e52.tg t47 (by decide)
      obtain ⟨g54, g55, hq⟩ := hq
      refine x_callV (Yc := YX5_fault) (as := [.int 7, .int x51]) (st := []) q2087 mvX5_fault t53 rfl dX5_array_56 (xle (xal1 (rv_cat _) (xal1 rfl (xal1 rfl xal0))) (by decide)) (xfr g54) (xlo xsw0 (by decide) g55) (xKr hq (fun x57 h56 hq e58 => ?_) (fun _ _ q _ => q))
      replace hq := hq e58
      obtain ⟨r59, g60, hq⟩ := hq
      rw [g60]
      exact x_athrow dX5_array_59 hq
set_option maxRecDepth 100000 in
def bX5_array (G : xG) (fr lo : Nat) (x0 : Nat) (x1 : Nat) (h : xH) (Q : Outcome → xH → Prop) : Prop := tg h x1 = 16 ∧ nx h + 1 ≤ xGN G ∧ us h + 3 ≤ xGU G ∧ (∀ (a4 : Nat) (h5 : xH), a4 = nx h + 1 → h5 = nO h 29 3 → xfresh h a4 → 1 ≤ fr ∧ 14 ≤ lo ∧ xRv G YJ2_init (fr - 1) (lo - 14) [rv a4, .int 1] h5 (fun h12 => xext h5 h12 → lX5_array_25 G fr lo x0 x1 ((fI h x1 3845) - 2) a4 (fR h12 x1 3842) 0 h12 Q) (fun r h2 => Q (.threw r) h2))
set_option maxRecDepth 100000 in
theorem uX5_array {G : xG} {fr lo : Nat} {x0 : Nat} {x1 : Nat} {h : xH} {Q : Outcome → xH → Prop} (hq : bX5_array G fr lo x0 x1 h Q) : xP G YX5_array fr lo 0 [(0, rv x0), (1, rv x1)] [] h Q := by
  unfold bX5_array at hq
  refine x_aload_n 1 dX5_array_0 rfl ?_
  obtain ⟨g1, hq⟩ := hq
  refine x_getN (v := .int (fI h x1 3845)) gfX5_293 dX5_array_1 g1 rfl ?_
  refine x_iconst (v := 2) dX5_array_4 (by decide) ?_
  refine x_isub dX5_array_5 ?_
  refine x_istore_n (lv' := [(2, .int ((fI h x1 3845) - 2)), (0, rv x0), (1, rv x1)]) dX5_array_6 (by decide) (by first | rfl | (simp [rv_cat, Value.category]; done) | (simp [rv_cat, Value.category]; decide)) ?_
  obtain ⟨g2, g3, hq⟩ := hq
  obtain ⟨a4, e6⟩ : ∃ y, y = nx h + 1 := ⟨_, rfl⟩
  obtain ⟨h5, e7⟩ : ∃ y, y = nO h 29 3 := ⟨_, rfl⟩
  refine x_new' cdX5_48 dX5_array_7 g2 g3 e6 e7 (fun f8 => ?_)
  replace hq := hq a4 h5 e6 e7 f8
  have t9 : tg h5 a4 = 29 := by rw [e7, e6]; exact tg_nO
  refine x_dup dX5_array_10 (rv_cat _) ?_
  refine x_iconst (v := 1) dX5_array_11 (by decide) ?_
  obtain ⟨g10, g11, hq⟩ := hq
  refine x_callI (Yc := YJ2_init) (as := [.int 1]) (st := [rv a4]) q745 miJ2_init (by rw [t9]; decide) rfl dX5_array_12 (xle (xal1 (rv_cat _) (xal1 rfl xal0)) (by decide)) (xfr g10) (xlo (xsw1 (rv_cat _) xsw0) (by decide) g11) (xKv hq (fun h12 hq e14 => ?_) (fun _ _ q _ => q))
  replace hq := hq e14
  refine x_astore_n (lv' := [(3, rv a4), (2, .int ((fI h x1 3845) - 2)), (0, rv x0), (1, rv x1)]) dX5_array_15 (by decide) rfl ?_
  refine x_aload_n 3 dX5_array_16 rfl ?_
  have t15 : tg h5 x1 = 16 := by rw [e7]; exact tg_nO_ne e6 f8 g1 (by decide)
  have t16 : tg h12 x1 = 16 := e14.tg t15 (by decide)
  refine x_getN (v := rv (fR h12 x1 3842)) gfX5_251 dX5_array_17 t16 rfl ?_
  refine x_astore (lv' := [(4, rv (fR h12 x1 3842)), (3, rv a4), (2, .int ((fI h x1 3845) - 2)), (0, rv x0), (1, rv x1)]) dX5_array_20 (by decide) (by first | rfl | (simp [rv_cat, Value.category]; done) | (simp [rv_cat, Value.category]; decide)) ?_
  refine x_iconst (v := 0) dX5_array_22 (by decide) ?_
  refine x_istore (lv' := [(5, .int 0), (4, rv (fR h12 x1 3842)), (3, rv a4), (2, .int ((fI h x1 3845) - 2)), (0, rv x0), (1, rv x1)]) dX5_array_23 (by decide) (by first | rfl | (simp [rv_cat, Value.category]; done) | (simp [rv_cat, Value.category]; decide)) ?_
  refine xP.pick (lv' := [(0, rv x0), (1, rv x1), (2, .int ((fI h x1 3845) - 2)), (3, rv a4), (4, rv (fR h12 x1 3842)), (5, .int 0)]) [4, 5, 3, 2, 1, 0] rfl ?_
  exact hq
theorem rX5_array {G : xG} {fr lo : Nat} {x0 : Nat} {x1 : Nat} {h : xH} {Q : Outcome → xH → Prop} (hq : bX5_array G fr lo x0 x1 h Q) : xR G YX5_array fr lo [rv x0, rv x1] h Q := by
  show xP _ _ _ _ _ (lv_args 0 _) _ _ _
  rw [show lv_args 0 [rv x0, rv x1] = [(0, rv x0), (1, rv x1)] from (xla1 (rv_cat _) (xla1 (rv_cat _) xla0))]
  exact uX5_array hq
set_option maxRecDepth 100000 in
theorem dX5_firstOfSimple_0 : decode cX5_firstOfSimple 0 = .ok (.aload_n 1, 1) := by decide +kernel
set_option maxRecDepth 100000 in
theorem dX5_firstOfSimple_1 : decode cX5_firstOfSimple 1 = .ok (.getfield 264, 3) := by decide +kernel
set_option maxRecDepth 100000 in
theorem dX5_firstOfSimple_4 : decode cX5_firstOfSimple 4 = .ok (.bipush 8, 2) := by decide +kernel
set_option maxRecDepth 100000 in
theorem dX5_firstOfSimple_6 : decode cX5_firstOfSimple 6 = .ok (.if_icmp .ne 14, 3) := by decide +kernel
set_option maxRecDepth 100000 in
theorem dX5_firstOfSimple_9 : decode cX5_firstOfSimple 9 = .ok (.aload_n 0, 1) := by decide +kernel
set_option maxRecDepth 100000 in
theorem dX5_firstOfSimple_10 : decode cX5_firstOfSimple 10 = .ok (.aload_n 1, 1) := by decide +kernel
set_option maxRecDepth 100000 in
theorem dX5_firstOfSimple_11 : decode cX5_firstOfSimple 11 = .ok (.getfield 251, 3) := by decide +kernel
set_option maxRecDepth 100000 in
theorem dX5_firstOfSimple_14 : decode cX5_firstOfSimple 14 = .ok (.invokevirtual 324, 3) := by decide +kernel
set_option maxRecDepth 100000 in
theorem dX5_firstOfSimple_17 : decode cX5_firstOfSimple 17 = .ok (.goto 7, 3) := by decide +kernel
set_option maxRecDepth 100000 in
theorem dX5_firstOfSimple_20 : decode cX5_firstOfSimple 20 = .ok (.aload_n 1, 1) := by decide +kernel
set_option maxRecDepth 100000 in
theorem dX5_firstOfSimple_21 : decode cX5_firstOfSimple 21 = .ok (.invokevirtual 192, 3) := by decide +kernel
set_option maxRecDepth 100000 in
theorem dX5_firstOfSimple_24 : decode cX5_firstOfSimple 24 = .ok (.ireturn, 1) := by decide +kernel
set_option maxRecDepth 100000 in
def bX5_firstOfSimple_24 (G : xG) (fr lo : Nat) (s0 : Int32) (h : xH) (Q : Outcome → xH → Prop) : Prop := Q (.returned (some (.int s0))) h
set_option maxRecDepth 100000 in
theorem uX5_firstOfSimple_24 {G : xG} {fr lo : Nat} {s0 : Int32} {h : xH} {Q : Outcome → xH → Prop} (hq : bX5_firstOfSimple_24 G fr lo s0 h Q) : xP G YX5_firstOfSimple fr lo 24 [] [.int s0] h Q := by
  unfold bX5_firstOfSimple_24 at hq
  exact x_iret rfl rfl dX5_firstOfSimple_24 hq
set_option maxRecDepth 100000 in
def bX5_firstOfSimple (G : xG) (fr lo : Nat) (x0 : Nat) (x1 : Nat) (h : xH) (Q : Outcome → xH → Prop) : Prop := tg h x1 = 16 ∧ ((¬ (fI h x1 3840) = 8 → 1 ≤ fr ∧ 12 ≤ lo ∧ xRi G YX15_place (fr - 1) (lo - 12) [rv x1] h (fun x6 h5 => xext h h5 → bX5_firstOfSimple_24 G fr lo x6 h5 Q) (fun r h2 => Q (.threw r) h2)) ∧ ((fI h x1 3840) = 8 → tg h x0 = 6 ∧ 1 ≤ fr ∧ 13 ≤ lo ∧ xRi G YX5_firstOfConstant (fr - 1) (lo - 13) [rv x0, rv (fR h x1 3842)] h (fun x12 h11 => xext h h11 → bX5_firstOfSimple_24 G fr lo x12 h11 Q) (fun r h2 => Q (.threw r) h2)))
set_option maxRecDepth 100000 in
theorem uX5_firstOfSimple {G : xG} {fr lo : Nat} {x0 : Nat} {x1 : Nat} {h : xH} {Q : Outcome → xH → Prop} (hq : bX5_firstOfSimple G fr lo x0 x1 h Q) : xP G YX5_firstOfSimple fr lo 0 [(0, rv x0), (1, rv x1)] [] h Q := by
  unfold bX5_firstOfSimple at hq
  refine x_aload_n 1 dX5_firstOfSimple_0 rfl ?_
  obtain ⟨g1, hq⟩ := hq
  refine x_getN (v := .int (fI h x1 3840)) gfX5_264 dX5_firstOfSimple_1 g1 rfl ?_
  refine x_bipush (v := 8) dX5_firstOfSimple_4 (by decide) ?_
  refine x_icmp_ne (tgt := 20) dX5_firstOfSimple_6 (by decide) (fun c2 => ?_) (fun c2 => ?_)
  · replace hq := hq.1 c2
    refine x_aload_n 1 dX5_firstOfSimple_20 rfl ?_
    obtain ⟨g3, g4, hq⟩ := hq
    refine x_callV (Yc := YX15_place) (as := []) (st := []) q2013 mvX15_place g1 rfl dX5_firstOfSimple_21 (xle (xal1 (rv_cat _) xal0) (by decide)) (xfr g3) (xlo xsw0 (by decide) g4) (xKi hq (fun x6 h5 hq e7 => ?_) (fun _ _ q _ => q))
    replace hq := hq e7
    refine xP.pick (lv' := []) [] rfl ?_
    exact uX5_firstOfSimple_24 hq
  · replace hq := hq.2 c2
    refine x_aload_n 0 dX5_firstOfSimple_9 rfl ?_
    refine x_aload_n 1 dX5_firstOfSimple_10 rfl ?_
    refine x_getN (v := rv (fR h x1 3842)) gfX5_251 dX5_firstOfSimple_11 g1 rfl ?_
    obtain ⟨g8, hq⟩ := hq
    obtain ⟨g9, g10, hq⟩ := hq
    refine x_callV (Yc := YX5_firstOfConstant) (as := [rv (fR h x1 3842)]) (st := []) q2300 mvX5_firstOfConstant g8 rfl dX5_firstOfSimple_14 (xle (xal1 (rv_cat _) (xal1 (rv_cat _) xal0)) (by decide)) (xfr g9) (xlo xsw0 (by decide) g10) (xKi hq (fun x12 h11 hq e13 => ?_) (fun _ _ q _ => q))
    replace hq := hq e13
    refine x_goto (tgt := 24) dX5_firstOfSimple_17 (by decide) ?_
    refine xP.pick (lv' := []) [] rfl ?_
    exact uX5_firstOfSimple_24 hq
theorem rX5_firstOfSimple {G : xG} {fr lo : Nat} {x0 : Nat} {x1 : Nat} {h : xH} {Q : Outcome → xH → Prop} (hq : bX5_firstOfSimple G fr lo x0 x1 h Q) : xR G YX5_firstOfSimple fr lo [rv x0, rv x1] h Q := by
  show xP _ _ _ _ _ (lv_args 0 _) _ _ _
  rw [show lv_args 0 [rv x0, rv x1] = [(0, rv x0), (1, rv x1)] from (xla1 (rv_cat _) (xla1 (rv_cat _) xla0))]
  exact uX5_firstOfSimple hq
set_option maxRecDepth 100000 in
theorem dX5_firstOfConstant_0 : decode cX5_firstOfConstant 0 = .ok (.aload_n 1, 1) := by decide +kernel
set_option maxRecDepth 100000 in
theorem dX5_firstOfConstant_1 : decode cX5_firstOfConstant 1 = .ok (.getfield 251, 3) := by decide +kernel
set_option maxRecDepth 100000 in
theorem dX5_firstOfConstant_4 : decode cX5_firstOfConstant 4 = .ok (.ifnonnull 10, 3) := by decide +kernel
set_option maxRecDepth 100000 in
theorem dX5_firstOfConstant_7 : decode cX5_firstOfConstant 7 = .ok (.aload_n 1, 1) := by decide +kernel
set_option maxRecDepth 100000 in
theorem dX5_firstOfConstant_8 : decode cX5_firstOfConstant 8 = .ok (.invokevirtual 192, 3) := by decide +kernel
set_option maxRecDepth 100000 in
theorem dX5_firstOfConstant_11 : decode cX5_firstOfConstant 11 = .ok (.goto 10, 3) := by decide +kernel
set_option maxRecDepth 100000 in
theorem dX5_firstOfConstant_14 : decode cX5_firstOfConstant 14 = .ok (.aload_n 1, 1) := by decide +kernel
set_option maxRecDepth 100000 in
theorem dX5_firstOfConstant_15 : decode cX5_firstOfConstant 15 = .ok (.getfield 251, 3) := by decide +kernel
set_option maxRecDepth 100000 in
theorem dX5_firstOfConstant_18 : decode cX5_firstOfConstant 18 = .ok (.invokevirtual 192, 3) := by decide +kernel
set_option maxRecDepth 100000 in
theorem dX5_firstOfConstant_21 : decode cX5_firstOfConstant 21 = .ok (.ireturn, 1) := by decide +kernel
set_option maxRecDepth 100000 in
def bX5_firstOfConstant_21 (G : xG) (fr lo : Nat) (s0 : Int32) (h : xH) (Q : Outcome → xH → Prop) : Prop := Q (.returned (some (.int s0))) h
set_option maxRecDepth 100000 in
theorem uX5_firstOfConstant_21 {G : xG} {fr lo : Nat} {s0 : Int32} {h : xH} {Q : Outcome → xH → Prop} (hq : bX5_firstOfConstant_21 G fr lo s0 h Q) : xP G YX5_firstOfConstant fr lo 21 [] [.int s0] h Q := by
  unfold bX5_firstOfConstant_21 at hq
  exact x_iret rfl rfl dX5_firstOfConstant_21 hq
set_option maxRecDepth 100000 in
def bX5_firstOfConstant (G : xG) (fr lo : Nat) (x0 : Nat) (x1 : Nat) (h : xH) (Q : Outcome → xH → Prop) : Prop := tg h x1 = 16 ∧ ((¬ (fR h x1 3842) = 0 → tg h (fR h x1 3842) = 16 ∧ 1 ≤ fr ∧ 12 ≤ lo ∧ xRi G YX15_place (fr - 1) (lo - 12) [rv (fR h x1 3842)] h (fun x7 h6 => xext h h6 → bX5_firstOfConstant_21 G fr lo x7 h6 Q) (fun r h2 => Q (.threw r) h2)) ∧ ((fR h x1 3842) = 0 → 1 ≤ fr ∧ 12 ≤ lo ∧ xRi G YX15_place (fr - 1) (lo - 12) [rv x1] h (fun x12 h11 => xext h h11 → bX5_firstOfConstant_21 G fr lo x12 h11 Q) (fun r h2 => Q (.threw r) h2)))
set_option maxRecDepth 100000 in
theorem uX5_firstOfConstant {G : xG} {fr lo : Nat} {x0 : Nat} {x1 : Nat} {h : xH} {Q : Outcome → xH → Prop} (hq : bX5_firstOfConstant G fr lo x0 x1 h Q) : xP G YX5_firstOfConstant fr lo 0 [(0, rv x0), (1, rv x1)] [] h Q := by
  unfold bX5_firstOfConstant at hq
  refine x_aload_n 1 dX5_firstOfConstant_0 rfl ?_
  obtain ⟨g1, hq⟩ := hq
  refine x_getN (v := rv (fR h x1 3842)) gfX5_251 dX5_firstOfConstant_1 g1 rfl ?_
  refine x_ifnonnull (tgt := 14) dX5_firstOfConstant_4 (by decide) (fun c2 => ?_) (fun c2 => ?_)
  · replace hq := hq.1 c2
    refine x_aload_n 1 dX5_firstOfConstant_14 rfl ?_
    refine x_getN (v := rv (fR h x1 3842)) gfX5_251 dX5_firstOfConstant_15 g1 rfl ?_
    obtain ⟨g3, hq⟩ := hq
    obtain ⟨g4, g5, hq⟩ := hq
    refine x_callV (Yc := YX15_place) (as := []) (st := []) q2013 mvX15_place g3 rfl dX5_firstOfConstant_18 (xle (xal1 (rv_cat _) xal0) (by decide)) (xfr g4) (xlo xsw0 (by decide) g5) (xKi hq (fun x7 h6 hq e8 => ?_) (fun _ _ q _ => q))
    replace hq := hq e8
    refine xP.pick (lv' := []) [] rfl ?_
    exact uX5_firstOfConstant_21 hq
  · replace hq := hq.2 c2
    refine x_aload_n 1 dX5_firstOfConstant_7 rfl ?_
    obtain ⟨g9, g10, hq⟩ := hq
    refine x_callV (Yc := YX15_place) (as := []) (st := []) q2013 mvX15_place g1 rfl dX5_firstOfConstant_8 (xle (xal1 (rv_cat _) xal0) (by decide)) (xfr g9) (xlo xsw0 (by decide) g10) (xKi hq (fun x12 h11 hq e13 => ?_) (fun _ _ q _ => q))
    replace hq := hq e13
    refine x_goto (tgt := 21) dX5_firstOfConstant_11 (by decide) ?_
    refine xP.pick (lv' := []) [] rfl ?_
    exact uX5_firstOfConstant_21 hq
theorem rX5_firstOfConstant {G : xG} {fr lo : Nat} {x0 : Nat} {x1 : Nat} {h : xH} {Q : Outcome → xH → Prop} (hq : bX5_firstOfConstant G fr lo x0 x1 h Q) : xR G YX5_firstOfConstant fr lo [rv x0, rv x1] h Q := by
  show xP _ _ _ _ _ (lv_args 0 _) _ _ _
  rw [show lv_args 0 [rv x0, rv x1] = [(0, rv x0), (1, rv x1)] from (xla1 (rv_cat _) (xla1 (rv_cat _) xla0))]
  exact uX5_firstOfConstant hq
set_option maxRecDepth 100000 in
theorem dX5_record_0 : decode cX5_record 0 = .ok (.new 9, 3) := by decide +kernel
set_option maxRecDepth 100000 in
theorem dX5_record_3 : decode cX5_record 3 = .ok (.dup, 1) := by decide +kernel
set_option maxRecDepth 100000 in
theorem dX5_record_4 : decode cX5_record 4 = .ok (.bipush 7, 2) := by decide +kernel
set_option maxRecDepth 100000 in
theorem dX5_record_6 : decode cX5_record 6 = .ok (.invokespecial 11, 3) := by decide +kernel
set_option maxRecDepth 100000 in
theorem dX5_record_9 : decode cX5_record 9 = .ok (.astore_n 2, 1) := by decide +kernel
set_option maxRecDepth 100000 in
theorem dX5_record_10 : decode cX5_record 10 = .ok (.aload_n 2, 1) := by decide +kernel
set_option maxRecDepth 100000 in
theorem dX5_record_11 : decode cX5_record 11 = .ok (.iconst 0, 1) := by decide +kernel
set_option maxRecDepth 100000 in
theorem dX5_record_12 : decode cX5_record 12 = .ok (.putfield 66, 3) := by decide +kernel
set_option maxRecDepth 100000 in
theorem dX5_record_15 : decode cX5_record 15 = .ok (.aload_n 0, 1) := by decide +kernel
set_option maxRecDepth 100000 in
theorem dX5_record_16 : decode cX5_record 16 = .ok (.aload_n 2, 1) := by decide +kernel
set_option maxRecDepth 100000 in
theorem dX5_record_17 : decode cX5_record 17 = .ok (.aload_n 1, 1) := by decide +kernel
set_option maxRecDepth 100000 in
theorem dX5_record_18 : decode cX5_record 18 = .ok (.getfield 251, 3) := by decide +kernel
set_option maxRecDepth 100000 in
theorem dX5_record_21 : decode cX5_record 21 = .ok (.aconst_null, 1) := by decide +kernel
set_option maxRecDepth 100000 in
theorem dX5_record_22 : decode cX5_record 22 = .ok (.iconst 0, 1) := by decide +kernel
set_option maxRecDepth 100000 in
theorem dX5_record_23 : decode cX5_record 23 = .ok (.invokevirtual 354, 3) := by decide +kernel
set_option maxRecDepth 100000 in
theorem dX5_record_26 : decode cX5_record 26 = .ok (.aload_n 2, 1) := by decide +kernel
set_option maxRecDepth 100000 in
theorem dX5_record_27 : decode cX5_record 27 = .ok (.getfield 66, 3) := by decide +kernel
set_option maxRecDepth 100000 in
theorem dX5_record_30 : decode cX5_record 30 = .ok (.sipush 5000, 3) := by decide +kernel
set_option maxRecDepth 100000 in
theorem dX5_record_33 : decode cX5_record 33 = .ok (.if_icmp .le 14, 3) := by decide +kernel
set_option maxRecDepth 100000 in
theorem dX5_record_36 : decode cX5_record 36 = .ok (.aload_n 0, 1) := by decide +kernel
set_option maxRecDepth 100000 in
theorem dX5_record_37 : decode cX5_record 37 = .ok (.bipush 8, 2) := by decide +kernel
set_option maxRecDepth 100000 in
theorem dX5_record_39 : decode cX5_record 39 = .ok (.aload_n 1, 1) := by decide +kernel
set_option maxRecDepth 100000 in
theorem dX5_record_40 : decode cX5_record 40 = .ok (.invokevirtual 192, 3) := by decide +kernel
set_option maxRecDepth 100000 in
theorem dX5_record_43 : decode cX5_record 43 = .ok (.invokevirtual 163, 3) := by decide +kernel
set_option maxRecDepth 100000 in
theorem dX5_record_46 : decode cX5_record 46 = .ok (.athrow, 1) := by decide +kernel
set_option maxRecDepth 100000 in
theorem dX5_record_47 : decode cX5_record 47 = .ok (.aload_n 2, 1) := by decide +kernel
set_option maxRecDepth 100000 in
theorem dX5_record_48 : decode cX5_record 48 = .ok (.areturn, 1) := by decide +kernel
set_option maxRecDepth 100000 in
def bX5_record (G : xG) (fr lo : Nat) (x0 : Nat) (x1 : Nat) (h : xH) (Q : Outcome → xH → Prop) : Prop := nx h + 1 ≤ xGN G ∧ us h + 9 ≤ xGU G ∧ (∀ (a3 : Nat) (h4 : xH), a3 = nx h + 1 → h4 = nO h 7 9 → xfresh h a3 → 1 ≤ fr ∧ 14 ≤ lo ∧ xRv G YX6_init (fr - 1) (lo - 14) [rv a3, .int 7] h4 (fun h11 => xext h4 h11 → (∀ h15 : xH, h15 = sI h11 a3 1543 0 → tg h15 x1 = 16 ∧ tg h15 x0 = 6 ∧ 1 ≤ fr ∧ 19 ≤ lo ∧ xRv G YX5_fields (fr - 1) (lo - 19) [rv x0, rv a3, rv (fR h15 x1 3842), rv 0, .int 0] h15 (fun h21 => xext h15 h21 → (((fI h21 a3 1543) ≤ 5000 → Q (.returned (some (rv a3))) h21) ∧ (¬ (fI h21 a3 1543) ≤ 5000 → 1 ≤ fr ∧ 14 ≤ lo ∧ xRi G YX15_place (fr - 1) (lo - 14) [rv x1] h21 (fun x31 h30 => xext h21 h30 → 1 ≤ fr ∧ 14 ≤ lo ∧ xRr G YX5_fault (fr - 1) (lo - 14) [rv x0, .int 8, .int x31] h30 (fun x38 h37 => xext h30 h37 → (∃ r40, x38 = r40 + 1 ∧ Q (.threw r40) h37)) (fun r h2 => Q (.threw r) h2)) (fun r h2 => Q (.threw r) h2)))) (fun r h2 => Q (.threw r) h2))) (fun r h2 => Q (.threw r) h2))
set_option maxRecDepth 100000 in
theorem uX5_record {G : xG} {fr lo : Nat} {x0 : Nat} {x1 : Nat} {h : xH} {Q : Outcome → xH → Prop} (hq : bX5_record G fr lo x0 x1 h Q) : xP G YX5_record fr lo 0 [(0, rv x0), (1, rv x1)] [] h Q := by
  unfold bX5_record at hq
  obtain ⟨g1, g2, hq⟩ := hq
  obtain ⟨a3, e5⟩ : ∃ y, y = nx h + 1 := ⟨_, rfl⟩
  obtain ⟨h4, e6⟩ : ∃ y, y = nO h 7 9 := ⟨_, rfl⟩
  refine x_new' cdX5_9 dX5_record_0 g1 g2 e5 e6 (fun f7 => ?_)
  replace hq := hq a3 h4 e5 e6 f7
  have t8 : tg h4 a3 = 7 := by rw [e6, e5]; exact tg_nO
  refine x_dup dX5_record_3 (rv_cat _) ?_
  refine x_bipush (v := 7) dX5_record_4 (by decide) ?_
  obtain ⟨g9, g10, hq⟩ := hq
  refine x_callI (Yc := YX6_init) (as := [.int 7]) (st := [rv a3]) q689 miX6_init (by rw [t8]; decide) rfl dX5_record_6 (xle (xal1 (rv_cat _) (xal1 rfl xal0)) (by decide)) (xfr g9) (xlo (xsw1 (rv_cat _) xsw0) (by decide) g10) (xKv hq (fun h11 hq e13 => ?_) (fun _ _ q _ => q))
  replace hq := hq e13
  refine x_astore_n (lv' := [(2, rv a3), (0, rv x0), (1, rv x1)]) dX5_record_9 (by decide) (by first | rfl | (simp [rv_cat, Value.category]; done) | (simp [rv_cat, Value.category]; decide)) ?_
  refine x_aload_n 0 dX5_record_10 rfl ?_
  refine x_iconst (v := 0) dX5_record_11 (by decide) ?_
  have t14 : tg h11 a3 = 7 := e13.tg t8 (by decide)
  obtain ⟨h15, e16⟩ : ∃ y, y = sI h11 a3 1543 0 := ⟨_, rfl⟩
  replace hq := hq h15 e16
  refine x_putNI gfX5_66 xty_I1 dX5_record_12 t14 (Or.inl (by rw [t14]; rfl)) xnI rfl e16 ?_
  refine x_aload_n 1 dX5_record_15 rfl ?_
  refine x_aload_n 0 dX5_record_16 rfl ?_
  refine x_aload_n 2 dX5_record_17 rfl ?_
  obtain ⟨g17, hq⟩ := hq
  refine x_getN (v := rv (fR h15 x1 3842)) gfX5_251 dX5_record_18 g17 rfl ?_
  refine x_null dX5_record_21 ?_
  refine x_iconst (v := 0) dX5_record_22 (by decide) ?_
  obtain ⟨g18, hq⟩ := hq
  obtain ⟨g19, g20, hq⟩ := hq
  refine x_callV (Yc := YX5_fields) (as := [rv a3, rv (fR h15 x1 3842), rv 0, .int 0]) (st := []) q2310 mvX5_fields g18 rfl dX5_record_23 (xle (xal1 (rv_cat _) (xal1 (rv_cat _) (xal1 (rv_cat _) (xal1 (rv_cat _) (xal1 rfl xal0))))) (by decide)) (xfr g19) (xlo xsw0 (by decide) g20) (xKv hq (fun h21 hq e23 => ?_) (fun _ _ q _ => q))
  replace hq := hq e23
  refine x_aload_n 0 dX5_record_26 rfl ?_
  have t24 : tg h15 a3 = 7 := by rw [e16]; exact t14
  have t25 : tg h21 a3 = 7 := e23.tg t24 (by decide)
  refine x_getN (v := .int (fI h21 a3 1543)) gfX5_66 dX5_record_27 t25 rfl ?_
  refine x_sipush (v := 5000) dX5_record_30 (by decide) ?_
  refine x_icmp_le (tgt := 47) dX5_record_33 (by decide) (fun c26 => ?_) (fun c26 => ?_)
  · replace hq := hq.1 c26
    refine x_aload_n 0 dX5_record_47 rfl ?_
    exact x_aret rfl xty_O dX5_record_48 hq
  · replace hq := hq.2 c26
    refine x_aload_n 1 dX5_record_36 rfl ?_
    refine x_bipush (v := 8) dX5_record_37 (by decide) ?_
    refine x_aload_n 2 dX5_record_39 rfl ?_
    have t27 : tg h21 x1 = 16 := e23.tg g17 (by decide)
    obtain ⟨g28, g29, hq⟩ := hq
    refine x_callV (Yc := YX15_place) (as := []) (st := [.int 8, rv x0]) q2013 mvX15_place t27 rfl dX5_record_40 (xle (xal1 (rv_cat _) xal0) (by decide)) (xfr g28) (xlo (xsw1 rfl (xsw1 (rv_cat _) xsw0)) (by decide) g29) (xKi hq (fun x31 h30 hq e32 => ?_) (fun _ _ q _ => q))
    replace hq := hq e32
    have t33 : tg h21 x0 = 6 := e23.tg g18 (by decide)
    have t34 : tg h30 x0 = 6 := e32.tg t33 (by decide)
    obtain ⟨g35, g36, hq⟩ := hq
    refine x_callV (Yc := YX5_fault) (as := [.int 8, .int x31]) (st := []) q2087 mvX5_fault t34 rfl dX5_record_43 (xle (xal1 (rv_cat _) (xal1 rfl (xal1 rfl xal0))) (by decide)) (xfr g35) (xlo xsw0 (by decide) g36) (xKr hq (fun x38 h37 hq e39 => ?_) (fun _ _ q _ => q))
    replace hq := hq e39
    obtain ⟨r40, g41, hq⟩ := hq
    rw [g41]
    exact x_athrow dX5_record_46 hq
theorem rX5_record {G : xG} {fr lo : Nat} {x0 : Nat} {x1 : Nat} {h : xH} {Q : Outcome → xH → Prop} (hq : bX5_record G fr lo x0 x1 h Q) : xR G YX5_record fr lo [rv x0, rv x1] h Q := by
  show xP _ _ _ _ _ (lv_args 0 _) _ _ _
  rw [show lv_args 0 [rv x0, rv x1] = [(0, rv x0), (1, rv x1)] from (xla1 (rv_cat _) (xla1 (rv_cat _) xla0))]
  exact uX5_record hq
set_option maxRecDepth 100000 in
theorem dX5_fields_0 : decode cX5_fields 0 = .ok (.aload_n 2, 1) := by decide +kernel
set_option maxRecDepth 100000 in
theorem dX5_fields_1 : decode cX5_fields 1 = .ok (.getfield 251, 3) := by decide +kernel
set_option maxRecDepth 100000 in
theorem dX5_fields_4 : decode cX5_fields 4 = .ok (.astore 5, 2) := by decide +kernel
set_option maxRecDepth 100000 in
theorem dX5_fields_6 : decode cX5_fields 6 = .ok (.aload 5, 2) := by decide +kernel
set_option maxRecDepth 100000 in
theorem dX5_fields_8 : decode cX5_fields 8 = .ok (.ifnull 108, 3) := by decide +kernel
set_option maxRecDepth 100000 in
theorem dX5_fields_11 : decode cX5_fields 11 = .ok (.aload 5, 2) := by decide +kernel
set_option maxRecDepth 100000 in
theorem dX5_fields_13 : decode cX5_fields 13 = .ok (.getfield 264, 3) := by decide +kernel
set_option maxRecDepth 100000 in
theorem dX5_fields_16 : decode cX5_fields 16 = .ok (.bipush 14, 2) := by decide +kernel
set_option maxRecDepth 100000 in
theorem dX5_fields_18 : decode cX5_fields 18 = .ok (.if_icmp .ne 16, 3) := by decide +kernel
set_option maxRecDepth 100000 in
theorem dX5_fields_21 : decode cX5_fields 21 = .ok (.aload_n 0, 1) := by decide +kernel
set_option maxRecDepth 100000 in
theorem dX5_fields_22 : decode cX5_fields 22 = .ok (.aload_n 1, 1) := by decide +kernel
set_option maxRecDepth 100000 in
theorem dX5_fields_23 : decode cX5_fields 23 = .ok (.aload 5, 2) := by decide +kernel
set_option maxRecDepth 100000 in
theorem dX5_fields_25 : decode cX5_fields 25 = .ok (.aload_n 3, 1) := by decide +kernel
set_option maxRecDepth 100000 in
theorem dX5_fields_26 : decode cX5_fields 26 = .ok (.iload 4, 2) := by decide +kernel
set_option maxRecDepth 100000 in
theorem dX5_fields_28 : decode cX5_fields 28 = .ok (.invokevirtual 358, 3) := by decide +kernel
set_option maxRecDepth 100000 in
theorem dX5_fields_31 : decode cX5_fields 31 = .ok (.goto 75, 3) := by decide +kernel
set_option maxRecDepth 100000 in
theorem dX5_fields_34 : decode cX5_fields 34 = .ok (.aload_n 0, 1) := by decide +kernel
set_option maxRecDepth 100000 in
theorem dX5_fields_35 : decode cX5_fields 35 = .ok (.aload 5, 2) := by decide +kernel
set_option maxRecDepth 100000 in
theorem dX5_fields_37 : decode cX5_fields 37 = .ok (.iconst 1, 1) := by decide +kernel
set_option maxRecDepth 100000 in
theorem dX5_fields_38 : decode cX5_fields 38 = .ok (.invokevirtual 310, 3) := by decide +kernel
set_option maxRecDepth 100000 in
theorem dX5_fields_41 : decode cX5_fields 41 = .ok (.invokevirtual 283, 3) := by decide +kernel
set_option maxRecDepth 100000 in
theorem dX5_fields_44 : decode cX5_fields 44 = .ok (.astore 6, 2) := by decide +kernel
set_option maxRecDepth 100000 in
theorem dX5_fields_46 : decode cX5_fields 46 = .ok (.aload 6, 2) := by decide +kernel
set_option maxRecDepth 100000 in
theorem dX5_fields_48 : decode cX5_fields 48 = .ok (.getfield 289, 3) := by decide +kernel
set_option maxRecDepth 100000 in
theorem dX5_fields_51 : decode cX5_fields 51 = .ok (.bipush 10, 2) := by decide +kernel
set_option maxRecDepth 100000 in
theorem dX5_fields_53 : decode cX5_fields 53 = .ok (.if_icmp .ne 15, 3) := by decide +kernel
set_option maxRecDepth 100000 in
theorem dX5_fields_56 : decode cX5_fields 56 = .ok (.aload_n 0, 1) := by decide +kernel
set_option maxRecDepth 100000 in
theorem dX5_fields_57 : decode cX5_fields 57 = .ok (.bipush 7, 2) := by decide +kernel
set_option maxRecDepth 100000 in
theorem dX5_fields_59 : decode cX5_fields 59 = .ok (.aload 5, 2) := by decide +kernel
set_option maxRecDepth 100000 in
theorem dX5_fields_61 : decode cX5_fields 61 = .ok (.invokevirtual 192, 3) := by decide +kernel
set_option maxRecDepth 100000 in
theorem dX5_fields_64 : decode cX5_fields 64 = .ok (.invokevirtual 163, 3) := by decide +kernel
set_option maxRecDepth 100000 in
theorem dX5_fields_67 : decode cX5_fields 67 = .ok (.athrow, 1) := by decide +kernel
set_option maxRecDepth 100000 in
theorem dX5_fields_68 : decode cX5_fields 68 = .ok (.aload 5, 2) := by decide +kernel
set_option maxRecDepth 100000 in
theorem dX5_fields_70 : decode cX5_fields 70 = .ok (.getfield 251, 3) := by decide +kernel
set_option maxRecDepth 100000 in
theorem dX5_fields_73 : decode cX5_fields 73 = .ok (.getfield 251, 3) := by decide +kernel
set_option maxRecDepth 100000 in
theorem dX5_fields_76 : decode cX5_fields 76 = .ok (.astore 7, 2) := by decide +kernel
set_option maxRecDepth 100000 in
theorem dX5_fields_78 : decode cX5_fields 78 = .ok (.aload 7, 2) := by decide +kernel
set_option maxRecDepth 100000 in
theorem dX5_fields_80 : decode cX5_fields 80 = .ok (.ifnull 26, 3) := by decide +kernel
set_option maxRecDepth 100000 in
theorem dX5_fields_83 : decode cX5_fields 83 = .ok (.aload_n 0, 1) := by decide +kernel
set_option maxRecDepth 100000 in
theorem dX5_fields_84 : decode cX5_fields 84 = .ok (.aload_n 1, 1) := by decide +kernel
set_option maxRecDepth 100000 in
theorem dX5_fields_85 : decode cX5_fields 85 = .ok (.aload 7, 2) := by decide +kernel
set_option maxRecDepth 100000 in
theorem dX5_fields_87 : decode cX5_fields 87 = .ok (.aload 6, 2) := by decide +kernel
set_option maxRecDepth 100000 in
theorem dX5_fields_89 : decode cX5_fields 89 = .ok (.aload_n 3, 1) := by decide +kernel
set_option maxRecDepth 100000 in
theorem dX5_fields_90 : decode cX5_fields 90 = .ok (.iload 4, 2) := by decide +kernel
set_option maxRecDepth 100000 in
theorem dX5_fields_92 : decode cX5_fields 92 = .ok (.invokevirtual 361, 3) := by decide +kernel
set_option maxRecDepth 100000 in
theorem dX5_fields_95 : decode cX5_fields 95 = .ok (.pop, 1) := by decide +kernel
set_option maxRecDepth 100000 in
theorem dX5_fields_96 : decode cX5_fields 96 = .ok (.aload 7, 2) := by decide +kernel
set_option maxRecDepth 100000 in
theorem dX5_fields_98 : decode cX5_fields 98 = .ok (.getfield 307, 3) := by decide +kernel
set_option maxRecDepth 100000 in
theorem dX5_fields_101 : decode cX5_fields 101 = .ok (.astore 7, 2) := by decide +kernel
set_option maxRecDepth 100000 in
theorem dX5_fields_103 : decode cX5_fields 103 = .ok (.goto (-25), 3) := by decide +kernel
set_option maxRecDepth 100000 in
theorem dX5_fields_106 : decode cX5_fields 106 = .ok (.aload 5, 2) := by decide +kernel
set_option maxRecDepth 100000 in
theorem dX5_fields_108 : decode cX5_fields 108 = .ok (.getfield 307, 3) := by decide +kernel
set_option maxRecDepth 100000 in
theorem dX5_fields_111 : decode cX5_fields 111 = .ok (.astore 5, 2) := by decide +kernel
set_option maxRecDepth 100000 in
theorem dX5_fields_113 : decode cX5_fields 113 = .ok (.goto (-107), 3) := by decide +kernel
set_option maxRecDepth 100000 in
theorem dX5_fields_116 : decode cX5_fields 116 = .ok (.return_, 1) := by decide +kernel
def lX5_fields_6 (G : xG) (fr lo : Nat) (x0 : Nat) (x1 : Nat) (x3 : Nat) (x4 : Int32) (x5 : Nat) (h : xH) (Q : Outcome → xH → Prop) : Prop := xP G YX5_fields fr lo 6 [(0, rv x0), (1, rv x1), (3, rv x3), (4, .int x4), (5, rv x5)] [] h Q
def lX5_fields_78 (G : xG) (fr lo : Nat) (x0 : Nat) (x1 : Nat) (x3 : Nat) (x4 : Int32) (x5 : Nat) (x6 : Nat) (x7 : Nat) (h : xH) (Q : Outcome → xH → Prop) : Prop := xP G YX5_fields fr lo 78 [(0, rv x0), (1, rv x1), (3, rv x3), (4, .int x4), (5, rv x5), (6, rv x6), (7, rv x7)] [] h Q
set_option maxRecDepth 100000 in
def bX5_fields_106 (G : xG) (fr lo : Nat) (x0 : Nat) (x1 : Nat) (x3 : Nat) (x4 : Int32) (x5 : Nat) (h : xH) (Q : Outcome → xH → Prop) : Prop := tg h x5 = 16 ∧ lX5_fields_6 G fr lo x0 x1 x3 x4 (fR h x5 3844) h Q
set_option maxRecDepth 100000 in
theorem uX5_fields_106 {G : xG} {fr lo : Nat} {x0 : Nat} {x1 : Nat} {x3 : Nat} {x4 : Int32} {x5 : Nat} {h : xH} {Q : Outcome → xH → Prop} (hq : bX5_fields_106 G fr lo x0 x1 x3 x4 x5 h Q) : xP G YX5_fields fr lo 106 [(0, rv x0), (1, rv x1), (3, rv x3), (4, .int x4), (5, rv x5)] [] h Q := by
  unfold bX5_fields_106 at hq
  refine x_aload 4 dX5_fields_106 rfl ?_
  obtain ⟨g1, hq⟩ := hq
  refine x_getN (v := rv (fR h x5 3844)) gfX5_307 dX5_fields_108 g1 rfl ?_
  refine x_astore (lv' := [(5, rv (fR h x5 3844)), (0, rv x0), (1, rv x1), (3, rv x3), (4, .int x4)]) dX5_fields_111 (by decide) rfl ?_
  refine x_goto (tgt := 6) dX5_fields_113 (by decide) ?_
  refine xP.pick (lv' := [(0, rv x0), (1, rv x1), (3, rv x3), (4, .int x4), (5, rv (fR h x5 3844))]) [1, 2, 3, 4, 0] rfl ?_
  exact hq
set_option maxRecDepth 100000 in
def bX5_fields_78 (G : xG) (fr lo : Nat) (x0 : Nat) (x1 : Nat) (x3 : Nat) (x4 : Int32) (x5 : Nat) (x6 : Nat) (x7 : Nat) (h : xH) (Q : Outcome → xH → Prop) : Prop := ((x7 = 0 → bX5_fields_106 G fr lo x0 x1 x3 x4 x5 h Q) ∧ (¬ x7 = 0 → tg h x0 = 6 ∧ 1 ≤ fr ∧ 18 ≤ lo ∧ xRr G YX5_field (fr - 1) (lo - 18) [rv x0, rv x1, rv x7, rv x6, rv x3, .int x4] h (fun x6 h5 => xext h h5 → tg h5 x7 = 16 ∧ lX5_fields_78 G fr lo x0 x1 x3 x4 x5 x6 (fR h5 x7 3844) h5 Q) (fun r h2 => Q (.threw r) h2)))
set_option maxRecDepth 100000 in
theorem uX5_fields_78 {G : xG} {fr lo : Nat} {x0 : Nat} {x1 : Nat} {x3 : Nat} {x4 : Int32} {x5 : Nat} {x6 : Nat} {x7 : Nat} {h : xH} {Q : Outcome → xH → Prop} (hq : bX5_fields_78 G fr lo x0 x1 x3 x4 x5 x6 x7 h Q) : xP G YX5_fields fr lo 78 [(0, rv x0), (1, rv x1), (3, rv x3), (4, .int x4), (5, rv x5), (6, rv x6), (7, rv x7)] [] h Q := by
  unfold bX5_fields_78 at hq
  refine x_aload 6 dX5_fields_78 rfl ?_
  refine x_ifnull (tgt := 106) dX5_fields_80 (by decide) (fun c1 => ?_) (fun c1 => ?_)
  · replace hq := hq.1 c1
    refine xP.pick (lv' := [(0, rv x0), (1, rv x1), (3, rv x3), (4, .int x4), (5, rv x5)]) [0, 1, 2, 3, 4] rfl ?_
    exact uX5_fields_106 hq
  · replace hq := hq.2 c1
    refine x_aload_n 0 dX5_fields_83 rfl ?_
    refine x_aload_n 1 dX5_fields_84 rfl ?_
    refine x_aload 6 dX5_fields_85 rfl ?_
    refine x_aload 5 dX5_fields_87 rfl ?_
    refine x_aload_n 2 dX5_fields_89 rfl ?_
    refine x_iload 3 dX5_fields_90 rfl ?_
    obtain ⟨g2, hq⟩ := hq
    obtain ⟨g3, g4, hq⟩ := hq
    refine x_callV (Yc := YX5_field) (as := [rv x1, rv x7, rv x6, rv x3, .int x4]) (st := []) q2361 mvX5_field g2 rfl dX5_fields_92 (xle (xal1 (rv_cat _) (xal1 (rv_cat _) (xal1 (rv_cat _) (xal1 (rv_cat _) (xal1 (rv_cat _) (xal1 rfl xal0)))))) (by decide)) (xfr g3) (xlo xsw0 (by decide) g4) (xKr hq (fun x6 h5 hq e7 => ?_) (fun _ _ q _ => q))
    replace hq := hq e7
    refine x_pop dX5_fields_95 (rv_cat _) ?_
    refine x_aload 6 dX5_fields_96 rfl ?_
    obtain ⟨g8, hq⟩ := hq
    refine x_getN (v := rv (fR h5 x7 3844)) gfX5_307 dX5_fields_98 g8 rfl ?_
    refine x_astore (lv' := [(7, rv (fR h5 x7 3844)), (0, rv x0), (1, rv x1), (3, rv x3), (4, .int x4), (5, rv x5), (6, rv x6)]) dX5_fields_101 (by decide) (by first | rfl | (simp [rv_cat, Value.category]; done) | (simp [rv_cat, Value.category]; decide)) ?_
    refine x_goto (tgt := 78) dX5_fields_103 (by decide) ?_
    refine xP.pick (lv' := [(0, rv x0), (1, rv x1), (3, rv x3), (4, .int x4), (5, rv x5), (6, rv x6), (7, rv (fR h5 x7 3844))]) [1, 2, 3, 4, 5, 6, 0] rfl ?_
    exact hq
set_option maxRecDepth 100000 in
def bX5_fields_6 (G : xG) (fr lo : Nat) (x0 : Nat) (x1 : Nat) (x3 : Nat) (x4 : Int32) (x5 : Nat) (h : xH) (Q : Outcome → xH → Prop) : Prop := ((x5 = 0 → Q (.returned none) h) ∧ (¬ x5 = 0 → tg h x5 = 16 ∧ ((¬ (fI h x5 3840) = 14 → 1 ≤ fr ∧ 16 ≤ lo ∧ xRr G YX15_kid (fr - 1) (lo - 16) [rv x5, .int 1] h (fun x7 h6 => xext h h6 → tg h6 x0 = 6 ∧ 1 ≤ fr ∧ 14 ≤ lo ∧ xRr G YX5_typeOf (fr - 1) (lo - 14) [rv x0, rv x7] h6 (fun x13 h12 => xext h6 h12 → tg h12 x13 = 7 ∧ ((¬ (fI h12 x13 1536) = 10 → tg h12 (fR h12 x5 3842) = 16 ∧ lX5_fields_78 G fr lo x0 x1 x3 x4 x5 x13 (fR h12 (fR h12 x5 3842) 3842) h12 Q) ∧ ((fI h12 x13 1536) = 10 → 1 ≤ fr ∧ 14 ≤ lo ∧ xRi G YX15_place (fr - 1) (lo - 14) [rv x5] h12 (fun x25 h24 => xext h12 h24 → 1 ≤ fr ∧ 14 ≤ lo ∧ xRr G YX5_fault (fr - 1) (lo - 14) [rv x0, .int 7, .int x25] h24 (fun x32 h31 => xext h24 h31 → (∃ r34, x32 = r34 + 1 ∧ Q (.threw r34) h31)) (fun r h2 => Q (.threw r) h2)) (fun r h2 => Q (.threw r) h2)))) (fun r h2 => Q (.threw r) h2)) (fun r h2 => Q (.threw r) h2)) ∧ ((fI h x5 3840) = 14 → tg h x0 = 6 ∧ 1 ≤ fr ∧ 22 ≤ lo ∧ xRv G YX5_variants (fr - 1) (lo - 22) [rv x0, rv x1, rv x5, rv x3, .int x4] h (fun h39 => xext h h39 → bX5_fields_106 G fr lo x0 x1 x3 x4 x5 h39 Q) (fun r h2 => Q (.threw r) h2)))))
set_option maxRecDepth 100000 in
theorem uX5_fields_6 {G : xG} {fr lo : Nat} {x0 : Nat} {x1 : Nat} {x3 : Nat} {x4 : Int32} {x5 : Nat} {h : xH} {Q : Outcome → xH → Prop} (hq : bX5_fields_6 G fr lo x0 x1 x3 x4 x5 h Q) : xP G YX5_fields fr lo 6 [(0, rv x0), (1, rv x1), (3, rv x3), (4, .int x4), (5, rv x5)] [] h Q := by
  unfold bX5_fields_6 at hq
  refine x_aload 4 dX5_fields_6 rfl ?_
  refine x_ifnull (tgt := 116) dX5_fields_8 (by decide) (fun c1 => ?_) (fun c1 => ?_)
  · replace hq := hq.1 c1
    exact x_vret rfl dX5_fields_116 hq
  · replace hq := hq.2 c1
    refine x_aload 4 dX5_fields_11 rfl ?_
    obtain ⟨g2, hq⟩ := hq
    refine x_getN (v := .int (fI h x5 3840)) gfX5_264 dX5_fields_13 g2 rfl ?_
    refine x_bipush (v := 14) dX5_fields_16 (by decide) ?_
    refine x_icmp_ne (tgt := 34) dX5_fields_18 (by decide) (fun c3 => ?_) (fun c3 => ?_)
    · replace hq := hq.1 c3
      refine x_aload_n 0 dX5_fields_34 rfl ?_
      refine x_aload 4 dX5_fields_35 rfl ?_
      refine x_iconst (v := 1) dX5_fields_37 (by decide) ?_
      obtain ⟨g4, g5, hq⟩ := hq
      refine x_callV (Yc := YX15_kid) (as := [.int 1]) (st := [rv x0]) q2129 mvX15_kid g2 rfl dX5_fields_38 (xle (xal1 (rv_cat _) (xal1 rfl xal0)) (by decide)) (xfr g4) (xlo (xsw1 (rv_cat _) xsw0) (by decide) g5) (xKr hq (fun x7 h6 hq e8 => ?_) (fun _ _ q _ => q))
      replace hq := hq e8
      obtain ⟨g9, hq⟩ := hq
      obtain ⟨g10, g11, hq⟩ := hq
      refine x_callV (Yc := YX5_typeOf) (as := [rv x7]) (st := []) q2272 mvX5_typeOf g9 rfl dX5_fields_41 (xle (xal1 (rv_cat _) (xal1 (rv_cat _) xal0)) (by decide)) (xfr g10) (xlo xsw0 (by decide) g11) (xKr hq (fun x13 h12 hq e14 => ?_) (fun _ _ q _ => q))
      replace hq := hq e14
      refine x_astore (lv' := [(6, rv x13), (0, rv x0), (1, rv x1), (3, rv x3), (4, .int x4), (5, rv x5)]) dX5_fields_44 (by decide) (by first | rfl | (simp [rv_cat, Value.category]; done) | (simp [rv_cat, Value.category]; decide)) ?_
      refine x_aload 0 dX5_fields_46 rfl ?_
      obtain ⟨g15, hq⟩ := hq
      refine x_getN (v := .int (fI h12 x13 1536)) gfX5_289 dX5_fields_48 g15 rfl ?_
      refine x_bipush (v := 10) dX5_fields_51 (by decide) ?_
      refine x_icmp_ne (tgt := 68) dX5_fields_53 (by decide) (fun c16 => ?_) (fun c16 => ?_)
      · replace hq := hq.1 c16
        refine x_aload 5 dX5_fields_68 rfl ?_
        have t17 : tg h6 x5 = 16 := e8.tg g2 (by decide)
        have t18 : tg h12 x5 = 16 := e14.tg t17 (by decide)
        refine x_getN (v := rv (fR h12 x5 3842)) gfX5_251 dX5_fields_70 t18 rfl ?_
        obtain ⟨g19, hq⟩ := hq
        refine x_getN (v := rv (fR h12 (fR h12 x5 3842) 3842)) gfX5_251 dX5_fields_73 g19 rfl ?_
        refine x_astore (lv' := [(7, rv (fR h12 (fR h12 x5 3842) 3842)), (6, rv x13), (0, rv x0), (1, rv x1), (3, rv x3), (4, .int x4), (5, rv x5)]) dX5_fields_76 (by decide) (by first | rfl | (simp [rv_cat, Value.category]; done) | (simp [rv_cat, Value.category]; decide)) ?_
        refine xP.pick (lv' := [(0, rv x0), (1, rv x1), (3, rv x3), (4, .int x4), (5, rv x5), (6, rv x13), (7, rv (fR h12 (fR h12 x5 3842) 3842))]) [2, 3, 4, 5, 6, 1, 0] rfl ?_
        exact hq
      · replace hq := hq.2 c16
        refine x_aload_n 1 dX5_fields_56 rfl ?_
        refine x_bipush (v := 7) dX5_fields_57 (by decide) ?_
        refine x_aload 5 dX5_fields_59 rfl ?_
        have t20 : tg h6 x5 = 16 := e8.tg g2 (by decide)
        have t21 : tg h12 x5 = 16 := e14.tg t20 (by decide)
        obtain ⟨g22, g23, hq⟩ := hq
        refine x_callV (Yc := YX15_place) (as := []) (st := [.int 7, rv x0]) q2013 mvX15_place t21 rfl dX5_fields_61 (xle (xal1 (rv_cat _) xal0) (by decide)) (xfr g22) (xlo (xsw1 rfl (xsw1 (rv_cat _) xsw0)) (by decide) g23) (xKi hq (fun x25 h24 hq e26 => ?_) (fun _ _ q _ => q))
        replace hq := hq e26
        have t27 : tg h12 x0 = 6 := e14.tg g9 (by decide)
        have t28 : tg h24 x0 = 6 := e26.tg t27 (by decide)
        obtain ⟨g29, g30, hq⟩ := hq
        refine x_callV (Yc := YX5_fault) (as := [.int 7, .int x25]) (st := []) q2087 mvX5_fault t28 rfl dX5_fields_64 (xle (xal1 (rv_cat _) (xal1 rfl (xal1 rfl xal0))) (by decide)) (xfr g29) (xlo xsw0 (by decide) g30) (xKr hq (fun x32 h31 hq e33 => ?_) (fun _ _ q _ => q))
        replace hq := hq e33
        obtain ⟨r34, g35, hq⟩ := hq
        rw [g35]
        exact x_athrow dX5_fields_67 hq
    · replace hq := hq.2 c3
      refine x_aload_n 0 dX5_fields_21 rfl ?_
      refine x_aload_n 1 dX5_fields_22 rfl ?_
      refine x_aload 4 dX5_fields_23 rfl ?_
      refine x_aload_n 2 dX5_fields_25 rfl ?_
      refine x_iload 3 dX5_fields_26 rfl ?_
      obtain ⟨g36, hq⟩ := hq
      obtain ⟨g37, g38, hq⟩ := hq
      refine x_callV (Yc := YX5_variants) (as := [rv x1, rv x5, rv x3, .int x4]) (st := []) q2314 mvX5_variants g36 rfl dX5_fields_28 (xle (xal1 (rv_cat _) (xal1 (rv_cat _) (xal1 (rv_cat _) (xal1 (rv_cat _) (xal1 rfl xal0))))) (by decide)) (xfr g37) (xlo xsw0 (by decide) g38) (xKv hq (fun h39 hq e41 => ?_) (fun _ _ q _ => q))
      replace hq := hq e41
      refine x_goto (tgt := 106) dX5_fields_31 (by decide) ?_
      exact uX5_fields_106 hq
set_option maxRecDepth 100000 in
def bX5_fields (G : xG) (fr lo : Nat) (x0 : Nat) (x1 : Nat) (x2 : Nat) (x3 : Nat) (x4 : Int32) (h : xH) (Q : Outcome → xH → Prop) : Prop := tg h x2 = 16 ∧ lX5_fields_6 G fr lo x0 x1 x3 x4 (fR h x2 3842) h Q
set_option maxRecDepth 100000 in
theorem uX5_fields {G : xG} {fr lo : Nat} {x0 : Nat} {x1 : Nat} {x2 : Nat} {x3 : Nat} {x4 : Int32} {h : xH} {Q : Outcome → xH → Prop} (hq : bX5_fields G fr lo x0 x1 x2 x3 x4 h Q) : xP G YX5_fields fr lo 0 [(0, rv x0), (1, rv x1), (2, rv x2), (3, rv x3), (4, .int x4)] [] h Q := by
  unfold bX5_fields at hq
  refine x_aload_n 2 dX5_fields_0 rfl ?_
  obtain ⟨g1, hq⟩ := hq
  refine x_getN (v := rv (fR h x2 3842)) gfX5_251 dX5_fields_1 g1 rfl ?_
  refine x_astore (lv' := [(5, rv (fR h x2 3842)), (0, rv x0), (1, rv x1), (2, rv x2), (3, rv x3), (4, .int x4)]) dX5_fields_4 (by decide) rfl ?_
  refine xP.pick (lv' := [(0, rv x0), (1, rv x1), (3, rv x3), (4, .int x4), (5, rv (fR h x2 3842))]) [1, 2, 4, 5, 0] rfl ?_
  exact hq
theorem rX5_fields {G : xG} {fr lo : Nat} {x0 : Nat} {x1 : Nat} {x2 : Nat} {x3 : Nat} {x4 : Int32} {h : xH} {Q : Outcome → xH → Prop} (hq : bX5_fields G fr lo x0 x1 x2 x3 x4 h Q) : xR G YX5_fields fr lo [rv x0, rv x1, rv x2, rv x3, .int x4] h Q := by
  show xP _ _ _ _ _ (lv_args 0 _) _ _ _
  rw [show lv_args 0 [rv x0, rv x1, rv x2, rv x3, .int x4] = [(0, rv x0), (1, rv x1), (2, rv x2), (3, rv x3), (4, .int x4)] from (xla1 (rv_cat _) (xla1 (rv_cat _) (xla1 (rv_cat _) (xla1 (rv_cat _) (xla1 rfl xla0)))))]
  exact uX5_fields hq
