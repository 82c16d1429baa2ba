/-! PascalHouse$Code, walked (1) -/
set_option maxRecDepth 100000 in
theorem dX2_init_0 : decode cX2_init 0 = .ok (.aload_n 0, 1) := by decide +kernel
set_option maxRecDepth 100000 in
theorem dX2_init_1 : decode cX2_init 1 = .ok (.invokespecial 3, 3) := by decide +kernel
set_option maxRecDepth 100000 in
theorem dX2_init_4 : decode cX2_init 4 = .ok (.aload_n 0, 1) := by decide +kernel
set_option maxRecDepth 100000 in
theorem dX2_init_5 : decode cX2_init 5 = .ok (.sipush 256, 3) := by decide +kernel
set_option maxRecDepth 100000 in
theorem dX2_init_8 : decode cX2_init 8 = .ok (.newarray .int, 2) := by decide +kernel
set_option maxRecDepth 100000 in
theorem dX2_init_10 : decode cX2_init 10 = .ok (.putfield 9, 3) := by decide +kernel
set_option maxRecDepth 100000 in
theorem dX2_init_13 : decode cX2_init 13 = .ok (.aload_n 0, 1) := by decide +kernel
set_option maxRecDepth 100000 in
theorem dX2_init_14 : decode cX2_init 14 = .ok (.sipush 256, 3) := by decide +kernel
set_option maxRecDepth 100000 in
theorem dX2_init_17 : decode cX2_init 17 = .ok (.newarray .int, 2) := by decide +kernel
set_option maxRecDepth 100000 in
theorem dX2_init_19 : decode cX2_init 19 = .ok (.putfield 15, 3) := by decide +kernel
set_option maxRecDepth 100000 in
theorem dX2_init_22 : decode cX2_init 22 = .ok (.aload_n 0, 1) := by decide +kernel
set_option maxRecDepth 100000 in
theorem dX2_init_23 : decode cX2_init 23 = .ok (.sipush 256, 3) := by decide +kernel
set_option maxRecDepth 100000 in
theorem dX2_init_26 : decode cX2_init 26 = .ok (.newarray .int, 2) := by decide +kernel
set_option maxRecDepth 100000 in
theorem dX2_init_28 : decode cX2_init 28 = .ok (.putfield 18, 3) := by decide +kernel
set_option maxRecDepth 100000 in
theorem dX2_init_31 : decode cX2_init 31 = .ok (.aload_n 0, 1) := by decide +kernel
set_option maxRecDepth 100000 in
theorem dX2_init_32 : decode cX2_init 32 = .ok (.sipush 256, 3) := by decide +kernel
set_option maxRecDepth 100000 in
theorem dX2_init_35 : decode cX2_init 35 = .ok (.newarray .int, 2) := by decide +kernel
set_option maxRecDepth 100000 in
theorem dX2_init_37 : decode cX2_init 37 = .ok (.putfield 21, 3) := by decide +kernel
set_option maxRecDepth 100000 in
theorem dX2_init_40 : decode cX2_init 40 = .ok (.aload_n 0, 1) := by decide +kernel
set_option maxRecDepth 100000 in
theorem dX2_init_41 : decode cX2_init 41 = .ok (.sipush 256, 3) := by decide +kernel
set_option maxRecDepth 100000 in
theorem dX2_init_44 : decode cX2_init 44 = .ok (.newarray .int, 2) := by decide +kernel
set_option maxRecDepth 100000 in
theorem dX2_init_46 : decode cX2_init 46 = .ok (.putfield 24, 3) := by decide +kernel
set_option maxRecDepth 100000 in
theorem dX2_init_49 : decode cX2_init 49 = .ok (.aload_n 0, 1) := by decide +kernel
set_option maxRecDepth 100000 in
theorem dX2_init_50 : decode cX2_init 50 = .ok (.bipush 8, 2) := by decide +kernel
set_option maxRecDepth 100000 in
theorem dX2_init_52 : decode cX2_init 52 = .ok (.newarray .double, 2) := by decide +kernel
set_option maxRecDepth 100000 in
theorem dX2_init_54 : decode cX2_init 54 = .ok (.putfield 27, 3) := by decide +kernel
set_option maxRecDepth 100000 in
theorem dX2_init_57 : decode cX2_init 57 = .ok (.aload_n 0, 1) := by decide +kernel
set_option maxRecDepth 100000 in
theorem dX2_init_58 : decode cX2_init 58 = .ok (.sipush 10000, 3) := by decide +kernel
set_option maxRecDepth 100000 in
theorem dX2_init_61 : decode cX2_init 61 = .ok (.newarray .byte, 2) := by decide +kernel
set_option maxRecDepth 100000 in
theorem dX2_init_63 : decode cX2_init 63 = .ok (.putfield 31, 3) := by decide +kernel
set_option maxRecDepth 100000 in
theorem dX2_init_66 : decode cX2_init 66 = .ok (.aload_n 0, 1) := by decide +kernel
set_option maxRecDepth 100000 in
theorem dX2_init_67 : decode cX2_init 67 = .ok (.new 35, 3) := by decide +kernel
set_option maxRecDepth 100000 in
theorem dX2_init_70 : decode cX2_init 70 = .ok (.dup, 1) := by decide +kernel
set_option maxRecDepth 100000 in
theorem dX2_init_71 : decode cX2_init 71 = .ok (.iconst 4, 1) := by decide +kernel
set_option maxRecDepth 100000 in
theorem dX2_init_72 : decode cX2_init 72 = .ok (.invokespecial 37, 3) := by decide +kernel
set_option maxRecDepth 100000 in
theorem dX2_init_75 : decode cX2_init 75 = .ok (.putfield 40, 3) := by decide +kernel
set_option maxRecDepth 100000 in
theorem dX2_init_78 : decode cX2_init 78 = .ok (.aload_n 0, 1) := by decide +kernel
set_option maxRecDepth 100000 in
theorem dX2_init_79 : decode cX2_init 79 = .ok (.new 35, 3) := by decide +kernel
set_option maxRecDepth 100000 in
theorem dX2_init_82 : decode cX2_init 82 = .ok (.dup, 1) := by decide +kernel
set_option maxRecDepth 100000 in
theorem dX2_init_83 : decode cX2_init 83 = .ok (.iconst 2, 1) := by decide +kernel
set_option maxRecDepth 100000 in
theorem dX2_init_84 : decode cX2_init 84 = .ok (.invokespecial 37, 3) := by decide +kernel
set_option maxRecDepth 100000 in
theorem dX2_init_87 : decode cX2_init 87 = .ok (.putfield 44, 3) := by decide +kernel
set_option maxRecDepth 100000 in
theorem dX2_init_90 : decode cX2_init 90 = .ok (.aload_n 0, 1) := by decide +kernel
set_option maxRecDepth 100000 in
theorem dX2_init_91 : decode cX2_init 91 = .ok (.bipush 16, 2) := by decide +kernel
set_option maxRecDepth 100000 in
theorem dX2_init_93 : decode cX2_init 93 = .ok (.newarray .int, 2) := by decide +kernel
set_option maxRecDepth 100000 in
theorem dX2_init_95 : decode cX2_init 95 = .ok (.putfield 47, 3) := by decide +kernel
set_option maxRecDepth 100000 in
theorem dX2_init_98 : decode cX2_init 98 = .ok (.aload_n 0, 1) := by decide +kernel
set_option maxRecDepth 100000 in
theorem dX2_init_99 : decode cX2_init 99 = .ok (.bipush 16, 2) := by decide +kernel
set_option maxRecDepth 100000 in
theorem dX2_init_101 : decode cX2_init 101 = .ok (.newarray .int, 2) := by decide +kernel
set_option maxRecDepth 100000 in
theorem dX2_init_103 : decode cX2_init 103 = .ok (.putfield 50, 3) := by decide +kernel
set_option maxRecDepth 100000 in
theorem dX2_init_106 : decode cX2_init 106 = .ok (.aload_n 0, 1) := by decide +kernel
set_option maxRecDepth 100000 in
theorem dX2_init_107 : decode cX2_init 107 = .ok (.bipush 16, 2) := by decide +kernel
set_option maxRecDepth 100000 in
theorem dX2_init_109 : decode cX2_init 109 = .ok (.newarray .int, 2) := by decide +kernel
set_option maxRecDepth 100000 in
theorem dX2_init_111 : decode cX2_init 111 = .ok (.putfield 53, 3) := by decide +kernel
set_option maxRecDepth 100000 in
theorem dX2_init_114 : decode cX2_init 114 = .ok (.return_, 1) := by decide +kernel
set_option maxRecDepth 100000 in
def bX2_init (G : xG) (fr lo : Nat) (x0 : Nat) (h : xH) (Q : Outcome → xH → Prop) : Prop := tg h x0 = 3 ∧ 1 ≤ fr ∧ 12 ≤ lo ∧ nx h + 1 ≤ xGN G ∧ us h + (Int32.toNatClampNeg 256) ≤ xGU G ∧ (∀ (a6 : Nat) (h7 : xH), a6 = nx h + 1 → h7 = nA h 100 (Int32.toNatClampNeg 256) → xfresh h a6 → (∀ h13 : xH, h13 = sR h7 x0 512 a6 → nx h13 + 1 ≤ xGN G ∧ us h13 + (Int32.toNatClampNeg 256) ≤ xGU G ∧ (∀ (a17 : Nat) (h18 : xH), a17 = nx h13 + 1 → h18 = nA h13 100 (Int32.toNatClampNeg 256) → xfresh h13 a17 → (∀ h25 : xH, h25 = sR h18 x0 513 a17 → nx h25 + 1 ≤ xGN G ∧ us h25 + (Int32.toNatClampNeg 256) ≤ xGU G ∧ (∀ (a29 : Nat) (h30 : xH), a29 = nx h25 + 1 → h30 = nA h25 100 (Int32.toNatClampNeg 256) → xfresh h25 a29 → (∀ h37 : xH, h37 = sR h30 x0 514 a29 → nx h37 + 1 ≤ xGN G ∧ us h37 + (Int32.toNatClampNeg 256) ≤ xGU G ∧ (∀ (a41 : Nat) (h42 : xH), a41 = nx h37 + 1 → h42 = nA h37 100 (Int32.toNatClampNeg 256) → xfresh h37 a41 → (∀ h49 : xH, h49 = sR h42 x0 515 a41 → nx h49 + 1 ≤ xGN G ∧ us h49 + (Int32.toNatClampNeg 256) ≤ xGU G ∧ (∀ (a53 : Nat) (h54 : xH), a53 = nx h49 + 1 → h54 = nA h49 100 (Int32.toNatClampNeg 256) → xfresh h49 a53 → (∀ h61 : xH, h61 = sR h54 x0 516 a53 → nx h61 + 1 ≤ xGN G ∧ us h61 + (Int32.toNatClampNeg 8) ≤ xGU G ∧ (∀ (a65 : Nat) (h66 : xH), a65 = nx h61 + 1 → h66 = nA h61 102 (Int32.toNatClampNeg 8) → xfresh h61 a65 → (∀ h73 : xH, h73 = sR h66 x0 518 a65 → nx h73 + 1 ≤ xGN G ∧ us h73 + (Int32.toNatClampNeg 10000) ≤ xGU G ∧ (∀ (a77 : Nat) (h78 : xH), a77 = nx h73 + 1 → h78 = nA h73 103 (Int32.toNatClampNeg 10000) → xfresh h73 a77 → (∀ h85 : xH, h85 = sR h78 x0 520 a77 → nx h85 + 1 ≤ xGN G ∧ us h85 + 3 ≤ xGU G ∧ (∀ (a89 : Nat) (h90 : xH), a89 = nx h85 + 1 → h90 = nO h85 29 3 → xfresh h85 a89 → 1 ≤ fr ∧ 15 ≤ lo ∧ xRv G YJ2_init (fr - 1) (lo - 15) [rv a89, .int 4] h90 (fun h97 => xext h90 h97 → (∀ h103 : xH, h103 = sR h97 x0 522 a89 → nx h103 + 1 ≤ xGN G ∧ us h103 + 3 ≤ xGU G ∧ (∀ (a107 : Nat) (h108 : xH), a107 = nx h103 + 1 → h108 = nO h103 29 3 → xfresh h103 a107 → 1 ≤ fr ∧ 15 ≤ lo ∧ xRv G YJ2_init (fr - 1) (lo - 15) [rv a107, .int 2] h108 (fun h115 => xext h108 h115 → (∀ h121 : xH, h121 = sR h115 x0 523 a107 → nx h121 + 1 ≤ xGN G ∧ us h121 + (Int32.toNatClampNeg 16) ≤ xGU G ∧ (∀ (a125 : Nat) (h126 : xH), a125 = nx h121 + 1 → h126 = nA h121 100 (Int32.toNatClampNeg 16) → xfresh h121 a125 → (∀ h133 : xH, h133 = sR h126 x0 524 a125 → nx h133 + 1 ≤ xGN G ∧ us h133 + (Int32.toNatClampNeg 16) ≤ xGU G ∧ (∀ (a137 : Nat) (h138 : xH), a137 = nx h133 + 1 → h138 = nA h133 100 (Int32.toNatClampNeg 16) → xfresh h133 a137 → (∀ h145 : xH, h145 = sR h138 x0 525 a137 → nx h145 + 1 ≤ xGN G ∧ us h145 + (Int32.toNatClampNeg 16) ≤ xGU G ∧ (∀ (a149 : Nat) (h150 : xH), a149 = nx h145 + 1 → h150 = nA h145 100 (Int32.toNatClampNeg 16) → xfresh h145 a149 → (∀ h157 : xH, h157 = sR h150 x0 527 a149 → Q (.returned none) h157)))))))) (fun r h2 => Q (.threw r) h2)))) (fun r h2 => Q (.threw r) h2))))))))))))))))
set_option maxRecDepth 100000 in
theorem uX2_init {G : xG} {fr lo : Nat} {x0 : Nat} {h : xH} {Q : Outcome → xH → Prop} (hq : bX2_init G fr lo x0 h Q) : xP G YX2_init fr lo 0 [(0, rv x0)] [] h Q := by
  unfold bX2_init at hq
  refine x_aload_n 0 dX2_init_0 rfl ?_
  obtain ⟨g1, hq⟩ := hq
  obtain ⟨g2, g3, hq⟩ := hq
  refine x_objInit (by rw [g1]; decide) q499 q438 q439 dX2_init_1 g2 (by simp only [List.map_cons, List.map_nil, List.sum_cons, List.sum_nil, rv_cat, Value.category]; omega) ?_
  refine x_aload_n 0 dX2_init_4 rfl ?_
  refine x_sipush (v := 256) dX2_init_5 (by decide) ?_
  obtain ⟨g4, g5, hq⟩ := hq
  obtain ⟨a6, e8⟩ : ∃ y, y = nx h + 1 := ⟨_, rfl⟩
  obtain ⟨h7, e9⟩ : ∃ y, y = nA h 100 (Int32.toNatClampNeg 256) := ⟨_, rfl⟩
  refine x_newa' 0 pk_int dX2_init_8 (by decide) (by decide) g4 g5 e8 e9 (fun f10 => ?_)
  replace hq := hq a6 h7 e8 e9 f10
  have t11 : tg h7 a6 = 100 := by rw [e9, e8]; exact tg_nA
  have t12 : tg h7 x0 = 3 := by rw [e9]; exact tg_nA_ne e8 f10 g1 (by decide)
  obtain ⟨h13, e14⟩ : ∃ y, y = sR h7 x0 512 a6 := ⟨_, rfl⟩
  replace hq := hq h13 e14
  refine x_putR fdX2_9 xty_A dX2_init_10 t12 (Or.inl (by rw [t12]; rfl)) rfl e14 ?_
  refine x_aload_n 0 dX2_init_13 rfl ?_
  refine x_sipush (v := 256) dX2_init_14 (by decide) ?_
  obtain ⟨g15, g16, hq⟩ := hq
  obtain ⟨a17, e19⟩ : ∃ y, y = nx h13 + 1 := ⟨_, rfl⟩
  obtain ⟨h18, e20⟩ : ∃ y, y = nA h13 100 (Int32.toNatClampNeg 256) := ⟨_, rfl⟩
  refine x_newa' 0 pk_int dX2_init_17 (by decide) (by decide) g15 g16 e19 e20 (fun f21 => ?_)
  replace hq := hq a17 h18 e19 e20 f21
  have t22 : tg h18 a17 = 100 := by rw [e20, e19]; exact tg_nA
  have t23 : tg h13 x0 = 3 := by rw [e14]; exact t12
  have t24 : tg h18 x0 = 3 := by rw [e20]; exact tg_nA_ne e19 f21 t23 (by decide)
  obtain ⟨h25, e26⟩ : ∃ y, y = sR h18 x0 513 a17 := ⟨_, rfl⟩
  replace hq := hq h25 e26
  refine x_putR fdX2_15 xty_A dX2_init_19 t24 (Or.inl (by rw [t24]; rfl)) rfl e26 ?_
  refine x_aload_n 0 dX2_init_22 rfl ?_
  refine x_sipush (v := 256) dX2_init_23 (by decide) ?_
  obtain ⟨g27, g28, hq⟩ := hq
  obtain ⟨a29, e31⟩ : ∃ y, y = nx h25 + 1 := ⟨_, rfl⟩
  obtain ⟨h30, e32⟩ : ∃ y, y = nA h25 100 (Int32.toNatClampNeg 256) := ⟨_, rfl⟩
  refine x_newa' 0 pk_int dX2_init_26 (by decide) (by decide) g27 g28 e31 e32 (fun f33 => ?_)
  replace hq := hq a29 h30 e31 e32 f33
  have t34 : tg h30 a29 = 100 := by rw [e32, e31]; exact tg_nA
  have t35 : tg h25 x0 = 3 := by rw [e26]; exact t24
  have t36 : tg h30 x0 = 3 := by rw [e32]; exact tg_nA_ne e31 f33 t35 (by decide)
  obtain ⟨h37, e38⟩ : ∃ y, y = sR h30 x0 514 a29 := ⟨_, rfl⟩
  replace hq := hq h37 e38
  refine x_putR fdX2_18 xty_A dX2_init_28 t36 (Or.inl (by rw [t36]; rfl)) rfl e38 ?_
  refine x_aload_n 0 dX2_init_31 rfl ?_
  refine x_sipush (v := 256) dX2_init_32 (by decide) ?_
  obtain ⟨g39, g40, hq⟩ := hq
  obtain ⟨a41, e43⟩ : ∃ y, y = nx h37 + 1 := ⟨_, rfl⟩
  obtain ⟨h42, e44⟩ : ∃ y, y = nA h37 100 (Int32.toNatClampNeg 256) := ⟨_, rfl⟩
  refine x_newa' 0 pk_int dX2_init_35 (by decide) (by decide) g39 g40 e43 e44 (fun f45 => ?_)
  replace hq := hq a41 h42 e43 e44 f45
  have t46 : tg h42 a41 = 100 := by rw [e44, e43]; exact tg_nA
  have t47 : tg h37 x0 = 3 := by rw [e38]; exact t36
  have t48 : tg h42 x0 = 3 := by rw [e44]; exact tg_nA_ne e43 f45 t47 (by decide)
  obtain ⟨h49, e50⟩ : ∃ y, y = sR h42 x0 515 a41 := ⟨_, rfl⟩
  replace hq := hq h49 e50
  refine x_putR fdX2_21 xty_A dX2_init_37 t48 (Or.inl (by rw [t48]; rfl)) rfl e50 ?_
  refine x_aload_n 0 dX2_init_40 rfl ?_
  refine x_sipush (v := 256) dX2_init_41 (by decide) ?_
  obtain ⟨g51, g52, hq⟩ := hq
  obtain ⟨a53, e55⟩ : ∃ y, y = nx h49 + 1 := ⟨_, rfl⟩
  obtain ⟨h54, e56⟩ : ∃ y, y = nA h49 100 (Int32.toNatClampNeg 256) := ⟨_, rfl⟩
  refine x_newa' 0 pk_int dX2_init_44 (by decide) (by decide) g51 g52 e55 e56 (fun f57 => ?_)
  replace hq := hq a53 h54 e55 e56 f57
  have t58 : tg h54 a53 = 100 := by rw [e56, e55]; exact tg_nA
  have t59 : tg h49 x0 = 3 := by rw [e50]; exact t48
  have t60 : tg h54 x0 = 3 := by rw [e56]; exact tg_nA_ne e55 f57 t59 (by decide)
  obtain ⟨h61, e62⟩ : ∃ y, y = sR h54 x0 516 a53 := ⟨_, rfl⟩
  replace hq := hq h61 e62
  refine x_putR fdX2_24 xty_A dX2_init_46 t60 (Or.inl (by rw [t60]; rfl)) rfl e62 ?_
  refine x_aload_n 0 dX2_init_49 rfl ?_
  refine x_bipush (v := 8) dX2_init_50 (by decide) ?_
  obtain ⟨g63, g64, hq⟩ := hq
  obtain ⟨a65, e67⟩ : ∃ y, y = nx h61 + 1 := ⟨_, rfl⟩
  obtain ⟨h66, e68⟩ : ∃ y, y = nA h61 102 (Int32.toNatClampNeg 8) := ⟨_, rfl⟩
  refine x_newa' 2 pk_double dX2_init_52 (by decide) (by decide) g63 g64 e67 e68 (fun f69 => ?_)
  replace hq := hq a65 h66 e67 e68 f69
  have t70 : tg h66 a65 = 102 := by rw [e68, e67]; exact tg_nA
  have t71 : tg h61 x0 = 3 := by rw [e62]; exact t60
  have t72 : tg h66 x0 = 3 := by rw [e68]; exact tg_nA_ne e67 f69 t71 (by decide)
  obtain ⟨h73, e74⟩ : ∃ y, y = sR h66 x0 518 a65 := ⟨_, rfl⟩
  replace hq := hq h73 e74
  refine x_putR fdX2_27 xty_A dX2_init_54 t72 (Or.inl (by rw [t72]; rfl)) rfl e74 ?_
  refine x_aload_n 0 dX2_init_57 rfl ?_
  refine x_sipush (v := 10000) dX2_init_58 (by decide) ?_
  obtain ⟨g75, g76, hq⟩ := hq
  obtain ⟨a77, e79⟩ : ∃ y, y = nx h73 + 1 := ⟨_, rfl⟩
  obtain ⟨h78, e80⟩ : ∃ y, y = nA h73 103 (Int32.toNatClampNeg 10000) := ⟨_, rfl⟩
  refine x_newa' 3 pk_byte dX2_init_61 (by decide) (by decide) g75 g76 e79 e80 (fun f81 => ?_)
  replace hq := hq a77 h78 e79 e80 f81
  have t82 : tg h78 a77 = 103 := by rw [e80, e79]; exact tg_nA
  have t83 : tg h73 x0 = 3 := by rw [e74]; exact t72
  have t84 : tg h78 x0 = 3 := by rw [e80]; exact tg_nA_ne e79 f81 t83 (by decide)
  obtain ⟨h85, e86⟩ : ∃ y, y = sR h78 x0 520 a77 := ⟨_, rfl⟩
  replace hq := hq h85 e86
  refine x_putFR fdX2_31 owX2_init_8 xty_A dX2_init_63 t84 (Or.inl (by rw [t84]; rfl)) rfl e86 ?_
  refine x_aload_n 0 dX2_init_66 rfl ?_
  obtain ⟨g87, g88, hq⟩ := hq
  obtain ⟨a89, e91⟩ : ∃ y, y = nx h85 + 1 := ⟨_, rfl⟩
  obtain ⟨h90, e92⟩ : ∃ y, y = nO h85 29 3 := ⟨_, rfl⟩
  refine x_new' cdX2_35 dX2_init_67 g87 g88 e91 e92 (fun f93 => ?_)
  replace hq := hq a89 h90 e91 e92 f93
  have t94 : tg h90 a89 = 29 := by rw [e92, e91]; exact tg_nO
  refine x_dup dX2_init_70 (rv_cat _) ?_
  refine x_iconst (v := 4) dX2_init_71 (by decide) ?_
  obtain ⟨g95, g96, hq⟩ := hq
  refine x_callI (Yc := YJ2_init) (as := [.int 4]) (st := [rv a89, rv x0]) q502 miJ2_init (by rw [t94]; decide) rfl dX2_init_72 (xle (xal1 (rv_cat _) (xal1 rfl xal0)) (by decide)) (xfr g95) (xlo (xsw1 (rv_cat _) (xsw1 (rv_cat _) xsw0)) (by decide) g96) (xKv hq (fun h97 hq e99 => ?_) (fun _ _ q _ => q))
  replace hq := hq e99
  have t100 : tg h85 x0 = 3 := by rw [e86]; exact t84
  have t101 : tg h90 x0 = 3 := by rw [e92]; exact tg_nO_ne e91 f93 t100 (by decide)
  have t102 : tg h97 x0 = 3 := e99.tg t101 (by decide)
  obtain ⟨h103, e104⟩ : ∃ y, y = sR h97 x0 522 a89 := ⟨_, rfl⟩
  replace hq := hq h103 e104
  refine x_putFR fdX2_40 owX2_init_10 xty_O dX2_init_75 t102 (Or.inl (by rw [t102]; rfl)) rfl e104 ?_
  refine x_aload_n 0 dX2_init_78 rfl ?_
  obtain ⟨g105, g106, hq⟩ := hq
  obtain ⟨a107, e109⟩ : ∃ y, y = nx h103 + 1 := ⟨_, rfl⟩
  obtain ⟨h108, e110⟩ : ∃ y, y = nO h103 29 3 := ⟨_, rfl⟩
  refine x_new' cdX2_35 dX2_init_79 g105 g106 e109 e110 (fun f111 => ?_)
  replace hq := hq a107 h108 e109 e110 f111
  have t112 : tg h108 a107 = 29 := by rw [e110, e109]; exact tg_nO
  refine x_dup dX2_init_82 (rv_cat _) ?_
  refine x_iconst (v := 2) dX2_init_83 (by decide) ?_
  obtain ⟨g113, g114, hq⟩ := hq
  refine x_callI (Yc := YJ2_init) (as := [.int 2]) (st := [rv a107, rv x0]) q502 miJ2_init (by rw [t112]; decide) rfl dX2_init_84 (xle (xal1 (rv_cat _) (xal1 rfl xal0)) (by decide)) (xfr g113) (xlo (xsw1 (rv_cat _) (xsw1 (rv_cat _) xsw0)) (by decide) g114) (xKv hq (fun h115 hq e117 => ?_) (fun _ _ q _ => q))
  replace hq := hq e117
  have t118 : tg h103 x0 = 3 := by rw [e104]; exact t102
  have t119 : tg h108 x0 = 3 := by rw [e110]; exact tg_nO_ne e109 f111 t118 (by decide)
  have t120 : tg h115 x0 = 3 := e117.tg t119 (by decide)
  obtain ⟨h121, e122⟩ : ∃ y, y = sR h115 x0 523 a107 := ⟨_, rfl⟩
  replace hq := hq h121 e122
  refine x_putFR fdX2_44 owX2_init_11 xty_O dX2_init_87 t120 (Or.inl (by rw [t120]; rfl)) rfl e122 ?_
  refine x_aload_n 0 dX2_init_90 rfl ?_
  refine x_bipush (v := 16) dX2_init_91 (by decide) ?_
  obtain ⟨g123, g124, hq⟩ := hq
  obtain ⟨a125, e127⟩ : ∃ y, y = nx h121 + 1 := ⟨_, rfl⟩
  obtain ⟨h126, e128⟩ : ∃ y, y = nA h121 100 (Int32.toNatClampNeg 16) := ⟨_, rfl⟩
  refine x_newa' 0 pk_int dX2_init_93 (by decide) (by decide) g123 g124 e127 e128 (fun f129 => ?_)
  replace hq := hq a125 h126 e127 e128 f129
  have t130 : tg h126 a125 = 100 := by rw [e128, e127]; exact tg_nA
  have t131 : tg h121 x0 = 3 := by rw [e122]; exact t120
  have t132 : tg h126 x0 = 3 := by rw [e128]; exact tg_nA_ne e127 f129 t131 (by decide)
  obtain ⟨h133, e134⟩ : ∃ y, y = sR h126 x0 524 a125 := ⟨_, rfl⟩
  replace hq := hq h133 e134
  refine x_putR fdX2_47 xty_A dX2_init_95 t132 (Or.inl (by rw [t132]; rfl)) rfl e134 ?_
  refine x_aload_n 0 dX2_init_98 rfl ?_
  refine x_bipush (v := 16) dX2_init_99 (by decide) ?_
  obtain ⟨g135, g136, hq⟩ := hq
  obtain ⟨a137, e139⟩ : ∃ y, y = nx h133 + 1 := ⟨_, rfl⟩
  obtain ⟨h138, e140⟩ : ∃ y, y = nA h133 100 (Int32.toNatClampNeg 16) := ⟨_, rfl⟩
  refine x_newa' 0 pk_int dX2_init_101 (by decide) (by decide) g135 g136 e139 e140 (fun f141 => ?_)
  replace hq := hq a137 h138 e139 e140 f141
  have t142 : tg h138 a137 = 100 := by rw [e140, e139]; exact tg_nA
  have t143 : tg h133 x0 = 3 := by rw [e134]; exact t132
  have t144 : tg h138 x0 = 3 := by rw [e140]; exact tg_nA_ne e139 f141 t143 (by decide)
  obtain ⟨h145, e146⟩ : ∃ y, y = sR h138 x0 525 a137 := ⟨_, rfl⟩
  replace hq := hq h145 e146
  refine x_putR fdX2_50 xty_A dX2_init_103 t144 (Or.inl (by rw [t144]; rfl)) rfl e146 ?_
  refine x_aload_n 0 dX2_init_106 rfl ?_
  refine x_bipush (v := 16) dX2_init_107 (by decide) ?_
  obtain ⟨g147, g148, hq⟩ := hq
  obtain ⟨a149, e151⟩ : ∃ y, y = nx h145 + 1 := ⟨_, rfl⟩
  obtain ⟨h150, e152⟩ : ∃ y, y = nA h145 100 (Int32.toNatClampNeg 16) := ⟨_, rfl⟩
  refine x_newa' 0 pk_int dX2_init_109 (by decide) (by decide) g147 g148 e151 e152 (fun f153 => ?_)
  replace hq := hq a149 h150 e151 e152 f153
  have t154 : tg h150 a149 = 100 := by rw [e152, e151]; exact tg_nA
  have t155 : tg h145 x0 = 3 := by rw [e146]; exact t144
  have t156 : tg h150 x0 = 3 := by rw [e152]; exact tg_nA_ne e151 f153 t155 (by decide)
  obtain ⟨h157, e158⟩ : ∃ y, y = sR h150 x0 527 a149 := ⟨_, rfl⟩
  replace hq := hq h157 e158
  refine x_putR fdX2_53 xty_A dX2_init_111 t156 (Or.inl (by rw [t156]; rfl)) rfl e158 ?_
  exact x_vret rfl dX2_init_114 hq
theorem rX2_init {G : xG} {fr lo : Nat} {x0 : Nat} {h : xH} {Q : Outcome → xH → Prop} (hq : bX2_init G fr lo x0 h Q) : xR G YX2_init fr lo [rv x0] h Q := by
  show xP _ _ _ _ _ (lv_args 0 _) _ _ _
  rw [show lv_args 0 [rv x0] = [(0, rv x0)] from (xla1 (rv_cat _) xla0)]
  exact uX2_init hq
set_option maxRecDepth 100000 in
theorem dX2_clear_0 : decode cX2_clear 0 = .ok (.aload_n 0, 1) := by decide +kernel
set_option maxRecDepth 100000 in
theorem dX2_clear_1 : decode cX2_clear 1 = .ok (.iconst 0, 1) := by decide +kernel
set_option maxRecDepth 100000 in
theorem dX2_clear_2 : decode cX2_clear 2 = .ok (.putfield 56, 3) := by decide +kernel
set_option maxRecDepth 100000 in
theorem dX2_clear_5 : decode cX2_clear 5 = .ok (.aload_n 0, 1) := by decide +kernel
set_option maxRecDepth 100000 in
theorem dX2_clear_6 : decode cX2_clear 6 = .ok (.iconst 0, 1) := by decide +kernel
set_option maxRecDepth 100000 in
theorem dX2_clear_7 : decode cX2_clear 7 = .ok (.putfield 60, 3) := by decide +kernel
set_option maxRecDepth 100000 in
theorem dX2_clear_10 : decode cX2_clear 10 = .ok (.aload_n 0, 1) := by decide +kernel
set_option maxRecDepth 100000 in
theorem dX2_clear_11 : decode cX2_clear 11 = .ok (.iconst 0, 1) := by decide +kernel
set_option maxRecDepth 100000 in
theorem dX2_clear_12 : decode cX2_clear 12 = .ok (.putfield 63, 3) := by decide +kernel
set_option maxRecDepth 100000 in
theorem dX2_clear_15 : decode cX2_clear 15 = .ok (.aload_n 0, 1) := by decide +kernel
set_option maxRecDepth 100000 in
theorem dX2_clear_16 : decode cX2_clear 16 = .ok (.iconst 0, 1) := by decide +kernel
set_option maxRecDepth 100000 in
theorem dX2_clear_17 : decode cX2_clear 17 = .ok (.putfield 66, 3) := by decide +kernel
set_option maxRecDepth 100000 in
theorem dX2_clear_20 : decode cX2_clear 20 = .ok (.aload_n 0, 1) := by decide +kernel
set_option maxRecDepth 100000 in
theorem dX2_clear_21 : decode cX2_clear 21 = .ok (.iconst 0, 1) := by decide +kernel
set_option maxRecDepth 100000 in
theorem dX2_clear_22 : decode cX2_clear 22 = .ok (.putfield 69, 3) := by decide +kernel
set_option maxRecDepth 100000 in
theorem dX2_clear_25 : decode cX2_clear 25 = .ok (.aload_n 0, 1) := by decide +kernel
set_option maxRecDepth 100000 in
theorem dX2_clear_26 : decode cX2_clear 26 = .ok (.getfield 40, 3) := by decide +kernel
set_option maxRecDepth 100000 in
theorem dX2_clear_29 : decode cX2_clear 29 = .ok (.invokevirtual 72, 3) := by decide +kernel
set_option maxRecDepth 100000 in
theorem dX2_clear_32 : decode cX2_clear 32 = .ok (.aload_n 0, 1) := by decide +kernel
set_option maxRecDepth 100000 in
theorem dX2_clear_33 : decode cX2_clear 33 = .ok (.getfield 44, 3) := by decide +kernel
set_option maxRecDepth 100000 in
theorem dX2_clear_36 : decode cX2_clear 36 = .ok (.invokevirtual 72, 3) := by decide +kernel
set_option maxRecDepth 100000 in
theorem dX2_clear_39 : decode cX2_clear 39 = .ok (.return_, 1) := by decide +kernel
set_option maxRecDepth 100000 in
def bX2_clear (G : xG) (fr lo : Nat) (x0 : Nat) (h : xH) (Q : Outcome → xH → Prop) : Prop := tg h x0 = 3 ∧ (∀ h2 : xH, h2 = sI h x0 517 0 → (∀ h5 : xH, h5 = sI h2 x0 519 0 → (∀ h8 : xH, h8 = sI h5 x0 521 0 → (∀ h11 : xH, h11 = sI h8 x0 526 0 → (∀ h14 : xH, h14 = sI h11 x0 528 0 → tg h14 (fR h14 x0 522) = 29 ∧ 1 ≤ fr ∧ 15 ≤ lo ∧ xRv G YJ2_clear (fr - 1) (lo - 15) [rv (fR h14 x0 522)] h14 (fun h20 => xext h14 h20 → tg h20 (fR h20 x0 523) = 29 ∧ 1 ≤ fr ∧ 15 ≤ lo ∧ xRv G YJ2_clear (fr - 1) (lo - 15) [rv (fR h20 x0 523)] h20 (fun h27 => xext h20 h27 → Q (.returned none) h27) (fun r h2 => Q (.threw r) h2)) (fun r h2 => Q (.threw r) h2))))))
set_option maxRecDepth 100000 in
theorem uX2_clear {G : xG} {fr lo : Nat} {x0 : Nat} {h : xH} {Q : Outcome → xH → Prop} (hq : bX2_clear G fr lo x0 h Q) : xP G YX2_clear fr lo 0 [(0, rv x0)] [] h Q := by
  unfold bX2_clear at hq
  refine x_aload_n 0 dX2_clear_0 rfl ?_
  refine x_iconst (v := 0) dX2_clear_1 (by decide) ?_
  obtain ⟨g1, hq⟩ := hq
  obtain ⟨h2, e3⟩ : ∃ y, y = sI h x0 517 0 := ⟨_, rfl⟩
  replace hq := hq h2 e3
  refine x_putI fdX2_56 xty_I1 dX2_clear_2 g1 (Or.inl (by rw [g1]; rfl)) xnI rfl e3 ?_
  refine x_aload_n 0 dX2_clear_5 rfl ?_
  refine x_iconst (v := 0) dX2_clear_6 (by decide) ?_
  have t4 : tg h2 x0 = 3 := by rw [e3]; exact g1
  obtain ⟨h5, e6⟩ : ∃ y, y = sI h2 x0 519 0 := ⟨_, rfl⟩
  replace hq := hq h5 e6
  refine x_putI fdX2_60 xty_I1 dX2_clear_7 t4 (Or.inl (by rw [t4]; rfl)) xnI rfl e6 ?_
  refine x_aload_n 0 dX2_clear_10 rfl ?_
  refine x_iconst (v := 0) dX2_clear_11 (by decide) ?_
  have t7 : tg h5 x0 = 3 := by rw [e6]; exact t4
  obtain ⟨h8, e9⟩ : ∃ y, y = sI h5 x0 521 0 := ⟨_, rfl⟩
  replace hq := hq h8 e9
  refine x_putI fdX2_63 xty_I1 dX2_clear_12 t7 (Or.inl (by rw [t7]; rfl)) xnI rfl e9 ?_
  refine x_aload_n 0 dX2_clear_15 rfl ?_
  refine x_iconst (v := 0) dX2_clear_16 (by decide) ?_
  have t10 : tg h8 x0 = 3 := by rw [e9]; exact t7
  obtain ⟨h11, e12⟩ : ∃ y, y = sI h8 x0 526 0 := ⟨_, rfl⟩
  replace hq := hq h11 e12
  refine x_putI fdX2_66 xty_I1 dX2_clear_17 t10 (Or.inl (by rw [t10]; rfl)) xnI rfl e12 ?_
  refine x_aload_n 0 dX2_clear_20 rfl ?_
  refine x_iconst (v := 0) dX2_clear_21 (by decide) ?_
  have t13 : tg h11 x0 = 3 := by rw [e12]; exact t10
  obtain ⟨h14, e15⟩ : ∃ y, y = sI h11 x0 528 0 := ⟨_, rfl⟩
  replace hq := hq h14 e15
  refine x_putI fdX2_69 xty_I1 dX2_clear_22 t13 (Or.inl (by rw [t13]; rfl)) xnI rfl e15 ?_
  refine x_aload_n 0 dX2_clear_25 rfl ?_
  have t16 : tg h14 x0 = 3 := by rw [e15]; exact t13
  refine x_get (v := rv (fR h14 x0 522)) fdX2_40 dX2_clear_26 t16 rfl ?_
  obtain ⟨g17, hq⟩ := hq
  obtain ⟨g18, g19, hq⟩ := hq
  refine x_callV (Yc := YJ2_clear) (as := []) (st := []) q1487 mvJ2_clear g17 rfl dX2_clear_29 (xle (xal1 (rv_cat _) xal0) (by decide)) (xfr g18) (xlo xsw0 (by decide) g19) (xKv hq (fun h20 hq e22 => ?_) (fun _ _ q _ => q))
  replace hq := hq e22
  refine x_aload_n 0 dX2_clear_32 rfl ?_
  have t23 : tg h20 x0 = 3 := e22.tg t16 (by decide)
  refine x_get (v := rv (fR h20 x0 523)) fdX2_44 dX2_clear_33 t23 rfl ?_
  obtain ⟨g24, hq⟩ := hq
  obtain ⟨g25, g26, hq⟩ := hq
  refine x_callV (Yc := YJ2_clear) (as := []) (st := []) q1487 mvJ2_clear g24 rfl dX2_clear_36 (xle (xal1 (rv_cat _) xal0) (by decide)) (xfr g25) (xlo xsw0 (by decide) g26) (xKv hq (fun h27 hq e29 => ?_) (fun _ _ q _ => q))
  replace hq := hq e29
  exact x_vret rfl dX2_clear_39 hq
theorem rX2_clear {G : xG} {fr lo : Nat} {x0 : Nat} {h : xH} {Q : Outcome → xH → Prop} (hq : bX2_clear G fr lo x0 h Q) : xR G YX2_clear fr lo [rv x0] h Q := by
  show xP _ _ _ _ _ (lv_args 0 _) _ _ _
  rw [show lv_args 0 [rv x0] = [(0, rv x0)] from (xla1 (rv_cat _) xla0)]
  exact uX2_clear hq
set_option maxRecDepth 100000 in
theorem dX2_label_0 : decode cX2_label 0 = .ok (.aload_n 0, 1) := by decide +kernel
set_option maxRecDepth 100000 in
theorem dX2_label_1 : decode cX2_label 1 = .ok (.getfield 69, 3) := by decide +kernel
set_option maxRecDepth 100000 in
theorem dX2_label_4 : decode cX2_label 4 = .ok (.aload_n 0, 1) := by decide +kernel
set_option maxRecDepth 100000 in
theorem dX2_label_5 : decode cX2_label 5 = .ok (.getfield 53, 3) := by decide +kernel
set_option maxRecDepth 100000 in
theorem dX2_label_8 : decode cX2_label 8 = .ok (.arraylength, 1) := by decide +kernel
set_option maxRecDepth 100000 in
theorem dX2_label_9 : decode cX2_label 9 = .ok (.if_icmp .ne 14, 3) := by decide +kernel
set_option maxRecDepth 100000 in
theorem dX2_label_12 : decode cX2_label 12 = .ok (.aload_n 0, 1) := by decide +kernel
set_option maxRecDepth 100000 in
theorem dX2_label_13 : decode cX2_label 13 = .ok (.aload_n 0, 1) := by decide +kernel
set_option maxRecDepth 100000 in
theorem dX2_label_14 : decode cX2_label 14 = .ok (.getfield 53, 3) := by decide +kernel
set_option maxRecDepth 100000 in
theorem dX2_label_17 : decode cX2_label 17 = .ok (.invokestatic 75, 3) := by decide +kernel
set_option maxRecDepth 100000 in
theorem dX2_label_20 : decode cX2_label 20 = .ok (.putfield 53, 3) := by decide +kernel
set_option maxRecDepth 100000 in
theorem dX2_label_23 : decode cX2_label 23 = .ok (.aload_n 0, 1) := by decide +kernel
set_option maxRecDepth 100000 in
theorem dX2_label_24 : decode cX2_label 24 = .ok (.getfield 53, 3) := by decide +kernel
set_option maxRecDepth 100000 in
theorem dX2_label_27 : decode cX2_label 27 = .ok (.aload_n 0, 1) := by decide +kernel
set_option maxRecDepth 100000 in
theorem dX2_label_28 : decode cX2_label 28 = .ok (.getfield 69, 3) := by decide +kernel
set_option maxRecDepth 100000 in
theorem dX2_label_31 : decode cX2_label 31 = .ok (.iconst (-1), 1) := by decide +kernel
set_option maxRecDepth 100000 in
theorem dX2_label_32 : decode cX2_label 32 = .ok (.iastore, 1) := by decide +kernel
set_option maxRecDepth 100000 in
theorem dX2_label_33 : decode cX2_label 33 = .ok (.aload_n 0, 1) := by decide +kernel
set_option maxRecDepth 100000 in
theorem dX2_label_34 : decode cX2_label 34 = .ok (.dup, 1) := by decide +kernel
set_option maxRecDepth 100000 in
theorem dX2_label_35 : decode cX2_label 35 = .ok (.getfield 69, 3) := by decide +kernel
set_option maxRecDepth 100000 in
theorem dX2_label_38 : decode cX2_label 38 = .ok (.iconst 1, 1) := by decide +kernel
set_option maxRecDepth 100000 in
theorem dX2_label_39 : decode cX2_label 39 = .ok (.iadd, 1) := by decide +kernel
set_option maxRecDepth 100000 in
theorem dX2_label_40 : decode cX2_label 40 = .ok (.putfield 69, 3) := by decide +kernel
set_option maxRecDepth 100000 in
theorem dX2_label_43 : decode cX2_label 43 = .ok (.aload_n 0, 1) := by decide +kernel
set_option maxRecDepth 100000 in
theorem dX2_label_44 : decode cX2_label 44 = .ok (.getfield 69, 3) := by decide +kernel
set_option maxRecDepth 100000 in
theorem dX2_label_47 : decode cX2_label 47 = .ok (.iconst 1, 1) := by decide +kernel
set_option maxRecDepth 100000 in
theorem dX2_label_48 : decode cX2_label 48 = .ok (.isub, 1) := by decide +kernel
set_option maxRecDepth 100000 in
theorem dX2_label_49 : decode cX2_label 49 = .ok (.ireturn, 1) := by decide +kernel
set_option maxRecDepth 100000 in
def bX2_label_23 (G : xG) (fr lo : Nat) (x0 : Nat) (h : xH) (Q : Outcome → xH → Prop) : Prop := tg h x0 = 3 ∧ tg h (fR h x0 527) = 100 ∧ vp_in (fI h x0 528) (ln h (fR h x0 527)) ∧ (∀ h4 : xH, h4 = tI h (fR h x0 527) (Int32.toNatClampNeg (fI h x0 528)) (-1) → (∀ h7 : xH, h7 = sI h4 x0 528 ((fI h4 x0 528) + 1) → Q (.returned (some (.int ((fI h7 x0 528) - 1)))) h7))
set_option maxRecDepth 100000 in
theorem uX2_label_23 {G : xG} {fr lo : Nat} {x0 : Nat} {h : xH} {Q : Outcome → xH → Prop} (hq : bX2_label_23 G fr lo x0 h Q) : xP G YX2_label fr lo 23 [(0, rv x0)] [] h Q := by
  unfold bX2_label_23 at hq
  refine x_aload_n 0 dX2_label_23 rfl ?_
  obtain ⟨g1, hq⟩ := hq
  refine x_get (v := rv (fR h x0 527)) fdX2_53 dX2_label_24 g1 rfl ?_
  refine x_aload_n 0 dX2_label_27 rfl ?_
  refine x_get (v := .int (fI h x0 528)) fdX2_69 dX2_label_28 g1 rfl ?_
  refine x_iconst (v := (-1)) dX2_label_31 (by decide) ?_
  obtain ⟨g2, hq⟩ := hq
  obtain ⟨i3, hq⟩ := hq
  obtain ⟨h4, e5⟩ : ∃ y, y = tI h (fR h x0 527) (Int32.toNatClampNeg (fI h x0 528)) (-1) := ⟨_, rfl⟩
  replace hq := hq h4 e5
  refine x_iast' g2 i3 dX2_label_32 e5 ?_
  refine x_aload_n 0 dX2_label_33 rfl ?_
  refine x_dup dX2_label_34 (rv_cat _) ?_
  have t6 : tg h4 x0 = 3 := by rw [e5]; exact g1
  refine x_get (v := .int (fI h4 x0 528)) fdX2_69 dX2_label_35 t6 rfl ?_
  refine x_iconst (v := 1) dX2_label_38 (by decide) ?_
  refine x_iadd dX2_label_39 ?_
  obtain ⟨h7, e8⟩ : ∃ y, y = sI h4 x0 528 ((fI h4 x0 528) + 1) := ⟨_, rfl⟩
  replace hq := hq h7 e8
  refine x_putI fdX2_69 xty_I1 dX2_label_40 t6 (Or.inl (by rw [t6]; rfl)) xnI rfl e8 ?_
  refine x_aload_n 0 dX2_label_43 rfl ?_
  have t9 : tg h7 x0 = 3 := by rw [e8]; exact t6
  refine x_get (v := .int (fI h7 x0 528)) fdX2_69 dX2_label_44 t9 rfl ?_
  refine x_iconst (v := 1) dX2_label_47 (by decide) ?_
  refine x_isub dX2_label_48 ?_
  exact x_iret rfl rfl dX2_label_49 hq
set_option maxRecDepth 100000 in
def bX2_label (G : xG) (fr lo : Nat) (x0 : Nat) (h : xH) (Q : Outcome → xH → Prop) : Prop := tg h x0 = 3 ∧ tg h (fR h x0 527) = 100 ∧ ((¬ (fI h x0 528) = (Int32.ofNat (ln h (fR h x0 527))) → bX2_label_23 G fr lo x0 h Q) ∧ ((fI h x0 528) = (Int32.ofNat (ln h (fR h x0 527))) → 1 ≤ fr ∧ 15 ≤ lo ∧ xRr G YX2_longer (fr - 1) (lo - 15) [rv (fR h x0 527)] h (fun x7 h6 => xext h h6 → (∀ h10 : xH, h10 = sR h6 x0 527 x7 → bX2_label_23 G fr lo x0 h10 Q)) (fun r h2 => Q (.threw r) h2)))
set_option maxRecDepth 100000 in
theorem uX2_label {G : xG} {fr lo : Nat} {x0 : Nat} {h : xH} {Q : Outcome → xH → Prop} (hq : bX2_label G fr lo x0 h Q) : xP G YX2_label fr lo 0 [(0, rv x0)] [] h Q := by
  unfold bX2_label at hq
  refine x_aload_n 0 dX2_label_0 rfl ?_
  obtain ⟨g1, hq⟩ := hq
  refine x_get (v := .int (fI h x0 528)) fdX2_69 dX2_label_1 g1 rfl ?_
  refine x_aload_n 0 dX2_label_4 rfl ?_
  refine x_get (v := rv (fR h x0 527)) fdX2_53 dX2_label_5 g1 rfl ?_
  obtain ⟨g2, hq⟩ := hq
  refine x_alen 0 g2 (by decide) dX2_label_8 ?_
  refine x_icmp_ne (tgt := 23) dX2_label_9 (by decide) (fun c3 => ?_) (fun c3 => ?_)
  · replace hq := hq.1 c3
    exact uX2_label_23 hq
  · replace hq := hq.2 c3
    refine x_aload_n 0 dX2_label_12 rfl ?_
    refine x_aload_n 0 dX2_label_13 rfl ?_
    refine x_get (v := rv (fR h x0 527)) fdX2_53 dX2_label_14 g1 rfl ?_
    obtain ⟨g4, g5, hq⟩ := hq
    refine x_callS (Yc := YX2_longer) (as := [rv (fR h x0 527)]) (st := [rv x0]) q2202 msX2_longer rfl dX2_label_17 (xle (xal1 (rv_cat _) xal0) (by decide)) (xfr g4) (xlo (xsw1 (rv_cat _) xsw0) (by decide) g5) (xKr hq (fun x7 h6 hq e8 => ?_) (fun _ _ q _ => q))
    replace hq := hq e8
    have t9 : tg h6 x0 = 3 := e8.tg g1 (by decide)
    obtain ⟨h10, e11⟩ : ∃ y, y = sR h6 x0 527 x7 := ⟨_, rfl⟩
    replace hq := hq h10 e11
    refine x_putR fdX2_53 xty_A dX2_label_20 t9 (Or.inl (by rw [t9]; rfl)) rfl e11 ?_
    exact uX2_label_23 hq
theorem rX2_label {G : xG} {fr lo : Nat} {x0 : Nat} {h : xH} {Q : Outcome → xH → Prop} (hq : bX2_label G fr lo x0 h Q) : xR G YX2_label fr lo [rv x0] h Q := by
  show xP _ _ _ _ _ (lv_args 0 _) _ _ _
  rw [show lv_args 0 [rv x0] = [(0, rv x0)] from (xla1 (rv_cat _) xla0)]
  exact uX2_label hq
set_option maxRecDepth 100000 in
theorem dX2_longer_0 : decode cX2_longer 0 = .ok (.iconst 2, 1) := by decide +kernel
set_option maxRecDepth 100000 in
theorem dX2_longer_1 : decode cX2_longer 1 = .ok (.aload_n 0, 1) := by decide +kernel
set_option maxRecDepth 100000 in
theorem dX2_longer_2 : decode cX2_longer 2 = .ok (.arraylength, 1) := by decide +kernel
set_option maxRecDepth 100000 in
theorem dX2_longer_3 : decode cX2_longer 3 = .ok (.imul, 1) := by decide +kernel
set_option maxRecDepth 100000 in
theorem dX2_longer_4 : decode cX2_longer 4 = .ok (.newarray .int, 2) := by decide +kernel
set_option maxRecDepth 100000 in
theorem dX2_longer_6 : decode cX2_longer 6 = .ok (.astore_n 1, 1) := by decide +kernel
set_option maxRecDepth 100000 in
theorem dX2_longer_7 : decode cX2_longer 7 = .ok (.iconst 0, 1) := by decide +kernel
set_option maxRecDepth 100000 in
theorem dX2_longer_8 : decode cX2_longer 8 = .ok (.istore_n 2, 1) := by decide +kernel
set_option maxRecDepth 100000 in
theorem dX2_longer_9 : decode cX2_longer 9 = .ok (.iload_n 2, 1) := by decide +kernel
set_option maxRecDepth 100000 in
theorem dX2_longer_10 : decode cX2_longer 10 = .ok (.aload_n 0, 1) := by decide +kernel
set_option maxRecDepth 100000 in
theorem dX2_longer_11 : decode cX2_longer 11 = .ok (.arraylength, 1) := by decide +kernel
set_option maxRecDepth 100000 in
theorem dX2_longer_12 : decode cX2_longer 12 = .ok (.if_icmp .ge 15, 3) := by decide +kernel
set_option maxRecDepth 100000 in
theorem dX2_longer_15 : decode cX2_longer 15 = .ok (.aload_n 1, 1) := by decide +kernel
set_option maxRecDepth 100000 in
theorem dX2_longer_16 : decode cX2_longer 16 = .ok (.iload_n 2, 1) := by decide +kernel
set_option maxRecDepth 100000 in
theorem dX2_longer_17 : decode cX2_longer 17 = .ok (.aload_n 0, 1) := by decide +kernel
set_option maxRecDepth 100000 in
theorem dX2_longer_18 : decode cX2_longer 18 = .ok (.iload_n 2, 1) := by decide +kernel
set_option maxRecDepth 100000 in
theorem dX2_longer_19 : decode cX2_longer 19 = .ok (.iaload, 1) := by decide +kernel
set_option maxRecDepth 100000 in
theorem dX2_longer_20 : decode cX2_longer 20 = .ok (.iastore, 1) := by decide +kernel
set_option maxRecDepth 100000 in
theorem dX2_longer_21 : decode cX2_longer 21 = .ok (.iinc 2 1, 3) := by decide +kernel
set_option maxRecDepth 100000 in
theorem dX2_longer_24 : decode cX2_longer 24 = .ok (.goto (-15), 3) := by decide +kernel
set_option maxRecDepth 100000 in
theorem dX2_longer_27 : decode cX2_longer 27 = .ok (.aload_n 1, 1) := by decide +kernel
set_option maxRecDepth 100000 in
theorem dX2_longer_28 : decode cX2_longer 28 = .ok (.areturn, 1) := by decide +kernel
def lX2_longer_9 (G : xG) (fr lo : Nat) (x0 : Nat) (x1 : Nat) (x2 : Int32) (h : xH) (Q : Outcome → xH → Prop) : Prop := xP G YX2_longer fr lo 9 [(0, rv x0), (1, rv x1), (2, .int x2)] [] h Q
set_option maxRecDepth 100000 in
def bX2_longer_9 (G : xG) (fr lo : Nat) (x0 : Nat) (x1 : Nat) (x2 : Int32) (h : xH) (Q : Outcome → xH → Prop) : Prop := tg h x0 = 100 ∧ (((Int32.ofNat (ln h x0)) ≤ x2 → Q (.returned (some (rv x1))) h) ∧ (¬ (Int32.ofNat (ln h x0)) ≤ x2 → vp_in x2 (ln h x0) ∧ tg h x1 = 100 ∧ vp_in x2 (ln h x1) ∧ (∀ h6 : xH, h6 = tI h x1 (Int32.toNatClampNeg x2) (aI h x0 (Int32.toNatClampNeg x2)) → lX2_longer_9 G fr lo x0 x1 (x2 + 1) h6 Q)))
set_option maxRecDepth 100000 in
theorem uX2_longer_9 {G : xG} {fr lo : Nat} {x0 : Nat} {x1 : Nat} {x2 : Int32} {h : xH} {Q : Outcome → xH → Prop} (hq : bX2_longer_9 G fr lo x0 x1 x2 h Q) : xP G YX2_longer fr lo 9 [(0, rv x0), (1, rv x1), (2, .int x2)] [] h Q := by
  unfold bX2_longer_9 at hq
  refine x_iload_n 2 dX2_longer_9 rfl ?_
  refine x_aload_n 0 dX2_longer_10 rfl ?_
  obtain ⟨g1, hq⟩ := hq
  refine x_alen 0 g1 (by decide) dX2_longer_11 ?_
  refine x_icmp_ge (tgt := 27) dX2_longer_12 (by decide) (fun c2 => ?_) (fun c2 => ?_)
  · replace hq := hq.1 c2
    refine x_aload_n 1 dX2_longer_27 rfl ?_
    exact x_aret rfl xty_A dX2_longer_28 hq
  · replace hq := hq.2 c2
    refine x_aload_n 1 dX2_longer_15 rfl ?_
    refine x_iload_n 2 dX2_longer_16 rfl ?_
    refine x_aload_n 0 dX2_longer_17 rfl ?_
    refine x_iload_n 2 dX2_longer_18 rfl ?_
    obtain ⟨i3, hq⟩ := hq
    refine x_iald 0 (Or.inl rfl) g1 i3 dX2_longer_19 ?_
    obtain ⟨g4, hq⟩ := hq
    obtain ⟨i5, hq⟩ := hq
    obtain ⟨h6, e7⟩ : ∃ y, y = tI h x1 (Int32.toNatClampNeg x2) (aI h x0 (Int32.toNatClampNeg x2)) := ⟨_, rfl⟩
    replace hq := hq h6 e7
    refine x_iast' g4 i5 dX2_longer_20 e7 ?_
    refine x_iinc (lv' := [(2, .int (x2 + 1)), (0, rv x0), (1, rv x1)]) 2 dX2_longer_21 rfl (by decide) (by first | rfl | (simp [rv_cat, Value.category]; done) | (simp [rv_cat, Value.category]; decide)) ?_
    refine x_goto (tgt := 9) dX2_longer_24 (by decide) ?_
    refine xP.pick (lv' := [(0, rv x0), (1, rv x1), (2, .int (x2 + 1))]) [1, 2, 0] rfl ?_
    exact hq
set_option maxRecDepth 100000 in
def bX2_longer (G : xG) (fr lo : Nat) (x0 : Nat) (h : xH) (Q : Outcome → xH → Prop) : Prop := tg h x0 = 100 ∧ ¬ (2 * (Int32.ofNat (ln h x0))) < 0 ∧ Int32.toNatClampNeg (2 * (Int32.ofNat (ln h x0))) ≤ 1000000 ∧ nx h + 1 ≤ xGN G ∧ us h + (Int32.toNatClampNeg (2 * (Int32.ofNat (ln h x0)))) ≤ xGU G ∧ (∀ (a6 : Nat) (h7 : xH), a6 = nx h + 1 → h7 = nA h 100 (Int32.toNatClampNeg (2 * (Int32.ofNat (ln h x0)))) → xfresh h a6 → lX2_longer_9 G fr lo x0 a6 0 h7 Q)
set_option maxRecDepth 100000 in
theorem uX2_longer {G : xG} {fr lo : Nat} {x0 : Nat} {h : xH} {Q : Outcome → xH → Prop} (hq : bX2_longer G fr lo x0 h Q) : xP G YX2_longer fr lo 0 [(0, rv x0)] [] h Q := by
  unfold bX2_longer at hq
  refine x_iconst (v := 2) dX2_longer_0 (by decide) ?_
  refine x_aload_n 0 dX2_longer_1 rfl ?_
  obtain ⟨g1, hq⟩ := hq
  refine x_alen 0 g1 (by decide) dX2_longer_2 ?_
  refine x_imul dX2_longer_3 ?_
  obtain ⟨g2, g3, hq⟩ := hq
  obtain ⟨g4, g5, hq⟩ := hq
  obtain ⟨a6, e8⟩ : ∃ y, y = nx h + 1 := ⟨_, rfl⟩
  obtain ⟨h7, e9⟩ : ∃ y, y = nA h 100 (Int32.toNatClampNeg (2 * (Int32.ofNat (ln h x0)))) := ⟨_, rfl⟩
  refine x_newa' 0 pk_int dX2_longer_4 g2 g3 g4 g5 e8 e9 (fun f10 => ?_)
  replace hq := hq a6 h7 e8 e9 f10
  have t11 : tg h7 a6 = 100 := by rw [e9, e8]; exact tg_nA
  refine x_astore_n (lv' := [(1, rv a6), (0, rv x0)]) dX2_longer_6 (by decide) (by first | rfl | (simp [rv_cat, Value.category]; done) | (simp [rv_cat, Value.category]; decide)) ?_
  refine x_iconst (v := 0) dX2_longer_7 (by decide) ?_
  refine x_istore_n (lv' := [(2, .int 0), (1, rv a6), (0, rv x0)]) dX2_longer_8 (by decide) (by first | rfl | (simp [rv_cat, Value.category]; done) | (simp [rv_cat, Value.category]; decide)) ?_
  refine xP.pick (lv' := [(0, rv x0), (1, rv a6), (2, .int 0)]) [2, 1, 0] rfl ?_
  exact hq
theorem rX2_longer {G : xG} {fr lo : Nat} {x0 : Nat} {h : xH} {Q : Outcome → xH → Prop} (hq : bX2_longer G fr lo x0 h Q) : xR G YX2_longer fr lo [rv x0] h Q := by
  show xP _ _ _ _ _ (lv_args 0 _) _ _ _
  rw [show lv_args 0 [rv x0] = [(0, rv x0)] from (xla1 (rv_cat _) xla0)]
  exact uX2_longer hq
set_option maxRecDepth 100000 in
theorem dX2_literal_0 : decode cX2_literal 0 = .ok (.aload_n 0, 1) := by decide +kernel
set_option maxRecDepth 100000 in
theorem dX2_literal_1 : decode cX2_literal 1 = .ok (.getfield 63, 3) := by decide +kernel
set_option maxRecDepth 100000 in
theorem dX2_literal_4 : decode cX2_literal 4 = .ok (.istore_n 2, 1) := by decide +kernel
set_option maxRecDepth 100000 in
theorem dX2_literal_5 : decode cX2_literal 5 = .ok (.iconst 0, 1) := by decide +kernel
set_option maxRecDepth 100000 in
theorem dX2_literal_6 : decode cX2_literal 6 = .ok (.istore_n 3, 1) := by decide +kernel
set_option maxRecDepth 100000 in
theorem dX2_literal_7 : decode cX2_literal 7 = .ok (.iload_n 3, 1) := by decide +kernel
set_option maxRecDepth 100000 in
theorem dX2_literal_8 : decode cX2_literal 8 = .ok (.aload_n 1, 1) := by decide +kernel
set_option maxRecDepth 100000 in
theorem dX2_literal_9 : decode cX2_literal 9 = .ok (.invokevirtual 79, 3) := by decide +kernel
set_option maxRecDepth 100000 in
theorem dX2_literal_12 : decode cX2_literal 12 = .ok (.if_icmp .ge 23, 3) := by decide +kernel
set_option maxRecDepth 100000 in
theorem dX2_literal_15 : decode cX2_literal 15 = .ok (.aload_n 0, 1) := by decide +kernel
set_option maxRecDepth 100000 in
theorem dX2_literal_16 : decode cX2_literal 16 = .ok (.getfield 31, 3) := by decide +kernel
set_option maxRecDepth 100000 in
theorem dX2_literal_19 : decode cX2_literal 19 = .ok (.iload_n 2, 1) := by decide +kernel
set_option maxRecDepth 100000 in
theorem dX2_literal_20 : decode cX2_literal 20 = .ok (.iload_n 3, 1) := by decide +kernel
set_option maxRecDepth 100000 in
theorem dX2_literal_21 : decode cX2_literal 21 = .ok (.iadd, 1) := by decide +kernel
set_option maxRecDepth 100000 in
theorem dX2_literal_22 : decode cX2_literal 22 = .ok (.aload_n 1, 1) := by decide +kernel
set_option maxRecDepth 100000 in
theorem dX2_literal_23 : decode cX2_literal 23 = .ok (.iload_n 3, 1) := by decide +kernel
set_option maxRecDepth 100000 in
theorem dX2_literal_24 : decode cX2_literal 24 = .ok (.invokevirtual 85, 3) := by decide +kernel
set_option maxRecDepth 100000 in
theorem dX2_literal_27 : decode cX2_literal 27 = .ok (.i2b, 1) := by decide +kernel
set_option maxRecDepth 100000 in
theorem dX2_literal_28 : decode cX2_literal 28 = .ok (.bastore, 1) := by decide +kernel
set_option maxRecDepth 100000 in
theorem dX2_literal_29 : decode cX2_literal 29 = .ok (.iinc 3 1, 3) := by decide +kernel
set_option maxRecDepth 100000 in
theorem dX2_literal_32 : decode cX2_literal 32 = .ok (.goto (-25), 3) := by decide +kernel
set_option maxRecDepth 100000 in
theorem dX2_literal_35 : decode cX2_literal 35 = .ok (.aload_n 0, 1) := by decide +kernel
set_option maxRecDepth 100000 in
theorem dX2_literal_36 : decode cX2_literal 36 = .ok (.dup, 1) := by decide +kernel
set_option maxRecDepth 100000 in
theorem dX2_literal_37 : decode cX2_literal 37 = .ok (.getfield 63, 3) := by decide +kernel
set_option maxRecDepth 100000 in
theorem dX2_literal_40 : decode cX2_literal 40 = .ok (.aload_n 1, 1) := by decide +kernel
set_option maxRecDepth 100000 in
theorem dX2_literal_41 : decode cX2_literal 41 = .ok (.invokevirtual 79, 3) := by decide +kernel
set_option maxRecDepth 100000 in
theorem dX2_literal_44 : decode cX2_literal 44 = .ok (.iadd, 1) := by decide +kernel
set_option maxRecDepth 100000 in
theorem dX2_literal_45 : decode cX2_literal 45 = .ok (.putfield 63, 3) := by decide +kernel
set_option maxRecDepth 100000 in
theorem dX2_literal_48 : decode cX2_literal 48 = .ok (.iload_n 2, 1) := by decide +kernel
set_option maxRecDepth 100000 in
theorem dX2_literal_49 : decode cX2_literal 49 = .ok (.ireturn, 1) := by decide +kernel
def lX2_literal_7 (G : xG) (fr lo : Nat) (x0 : Nat) (x1 : Nat) (x2 : Int32) (x3 : Int32) (h : xH) (Q : Outcome → xH → Prop) : Prop := xP G YX2_literal fr lo 7 [(0, rv x0), (1, rv x1), (2, .int x2), (3, .int x3)] [] h Q
set_option maxRecDepth 100000 in
def bX2_literal_7 (G : xG) (fr lo : Nat) (x0 : Nat) (x1 : Nat) (x2 : Int32) (x3 : Int32) (h : xH) (Q : Outcome → xH → Prop) : Prop := tg h x1 = 31 ∧ 1 ≤ fr ∧ 13 ≤ lo ∧ xRi G YJ5_length (fr - 1) (lo - 13) [rv x1] h (fun x5 h4 => xext h h4 → ((x5 ≤ x3 → tg h4 x0 = 3 ∧ 1 ≤ fr ∧ 14 ≤ lo ∧ xRi G YJ5_length (fr - 1) (lo - 14) [rv x1] h4 (fun x13 h12 => xext h4 h12 → (∀ h16 : xH, h16 = sI h12 x0 521 ((fI h4 x0 521) + x13) → Q (.returned (some (.int x2))) h16)) (fun r h2 => Q (.threw r) h2)) ∧ (¬ x5 ≤ x3 → tg h4 x0 = 3 ∧ 1 ≤ fr ∧ 15 ≤ lo ∧ xRi G YJ5_charAt (fr - 1) (lo - 15) [rv x1, .int x3] h4 (fun x23 h22 => xext h4 h22 → tg h22 (fR h4 x0 520) = 103 ∧ xGB G < (fR h4 x0 520) ∧ vp_in (x2 + x3) (ln h22 (fR h4 x0 520)) ∧ (∀ h28 : xH, h28 = tI h22 (fR h4 x0 520) (Int32.toNatClampNeg (x2 + x3)) (vp_nar .byte ((Int32.toInt8 x23).toInt32)) → lX2_literal_7 G fr lo x0 x1 x2 (x3 + 1) h28 Q)) (fun r h2 => Q (.threw r) h2)))) (fun r h2 => Q (.threw r) h2)
set_option maxRecDepth 100000 in
theorem uX2_literal_7 {G : xG} {fr lo : Nat} {x0 : Nat} {x1 : Nat} {x2 : Int32} {x3 : Int32} {h : xH} {Q : Outcome → xH → Prop} (hq : bX2_literal_7 G fr lo x0 x1 x2 x3 h Q) : xP G YX2_literal fr lo 7 [(0, rv x0), (1, rv x1), (2, .int x2), (3, .int x3)] [] h Q := by
  unfold bX2_literal_7 at hq
  refine x_iload_n 3 dX2_literal_7 rfl ?_
  refine x_aload_n 1 dX2_literal_8 rfl ?_
  obtain ⟨g1, hq⟩ := hq
  obtain ⟨g2, g3, hq⟩ := hq
  refine x_callV (Yc := YJ5_length) (as := []) (st := [.int x3]) q2240 mvJ5_length g1 rfl dX2_literal_9 (xle (xal1 (rv_cat _) xal0) (by decide)) (xfr g2) (xlo (xsw1 rfl xsw0) (by decide) g3) (xKi hq (fun x5 h4 hq e6 => ?_) (fun _ _ q _ => q))
  replace hq := hq e6
  refine x_icmp_ge (tgt := 35) dX2_literal_12 (by decide) (fun c7 => ?_) (fun c7 => ?_)
  · replace hq := hq.1 c7
    refine x_aload_n 0 dX2_literal_35 rfl ?_
    refine x_dup dX2_literal_36 (rv_cat _) ?_
    obtain ⟨g8, hq⟩ := hq
    refine x_get (v := .int (fI h4 x0 521)) fdX2_63 dX2_literal_37 g8 rfl ?_
    refine x_aload_n 1 dX2_literal_40 rfl ?_
    have t9 : tg h4 x1 = 31 := e6.tg g1 (by decide)
    obtain ⟨g10, g11, hq⟩ := hq
    refine x_callV (Yc := YJ5_length) (as := []) (st := [.int (fI h4 x0 521), rv x0]) q2240 mvJ5_length t9 rfl dX2_literal_41 (xle (xal1 (rv_cat _) xal0) (by decide)) (xfr g10) (xlo (xsw1 rfl (xsw1 (rv_cat _) xsw0)) (by decide) g11) (xKi hq (fun x13 h12 hq e14 => ?_) (fun _ _ q _ => q))
    replace hq := hq e14
    refine x_iadd dX2_literal_44 ?_
    have t15 : tg h12 x0 = 3 := e14.tg g8 (by decide)
    obtain ⟨h16, e17⟩ : ∃ y, y = sI h12 x0 521 ((fI h4 x0 521) + x13) := ⟨_, rfl⟩
    replace hq := hq h16 e17
    refine x_putI fdX2_63 xty_I1 dX2_literal_45 t15 (Or.inl (by rw [t15]; rfl)) xnI rfl e17 ?_
    refine x_iload_n 2 dX2_literal_48 rfl ?_
    exact x_iret rfl rfl dX2_literal_49 hq
  · replace hq := hq.2 c7
    refine x_aload_n 0 dX2_literal_15 rfl ?_
    obtain ⟨g18, hq⟩ := hq
    refine x_get (v := rv (fR h4 x0 520)) fdX2_31 dX2_literal_16 g18 rfl ?_
    refine x_iload_n 2 dX2_literal_19 rfl ?_
    refine x_iload_n 3 dX2_literal_20 rfl ?_
    refine x_iadd dX2_literal_21 ?_
    refine x_aload_n 1 dX2_literal_22 rfl ?_
    refine x_iload_n 3 dX2_literal_23 rfl ?_
    have t19 : tg h4 x1 = 31 := e6.tg g1 (by decide)
    obtain ⟨g20, g21, hq⟩ := hq
    refine x_callV (Yc := YJ5_charAt) (as := [.int x3]) (st := [.int (x2 + x3), rv (fR h4 x0 520)]) q2241 mvJ5_charAt t19 rfl dX2_literal_24 (xle (xal1 (rv_cat _) (xal1 rfl xal0)) (by decide)) (xfr g20) (xlo (xsw1 rfl (xsw1 (rv_cat _) xsw0)) (by decide) g21) (xKi hq (fun x23 h22 hq e24 => ?_) (fun _ _ q _ => q))
    replace hq := hq e24
    refine x_i2b dX2_literal_27 ?_
    obtain ⟨g25, hq⟩ := hq
    obtain ⟨w26, hq⟩ := hq
    obtain ⟨i27, hq⟩ := hq
    obtain ⟨h28, e29⟩ : ∃ y, y = tI h22 (fR h4 x0 520) (Int32.toNatClampNeg (x2 + x3)) (vp_nar .byte ((Int32.toInt8 x23).toInt32)) := ⟨_, rfl⟩
    replace hq := hq h28 e29
    refine x_bast' g25 (Or.inr w26) i27 dX2_literal_28 e29 ?_
    refine x_iinc (lv' := [(3, .int (x3 + 1)), (0, rv x0), (1, rv x1), (2, .int x2)]) 3 dX2_literal_29 rfl (by decide) rfl ?_
    refine x_goto (tgt := 7) dX2_literal_32 (by decide) ?_
    refine xP.pick (lv' := [(0, rv x0), (1, rv x1), (2, .int x2), (3, .int (x3 + 1))]) [1, 2, 3, 0] rfl ?_
    exact hq
set_option maxRecDepth 100000 in
def bX2_literal (G : xG) (fr lo : Nat) (x0 : Nat) (x1 : Nat) (h : xH) (Q : Outcome → xH → Prop) : Prop := tg h x0 = 3 ∧ lX2_literal_7 G fr lo x0 x1 (fI h x0 521) 0 h Q
set_option maxRecDepth 100000 in
theorem uX2_literal {G : xG} {fr lo : Nat} {x0 : Nat} {x1 : Nat} {h : xH} {Q : Outcome → xH → Prop} (hq : bX2_literal G fr lo x0 x1 h Q) : xP G YX2_literal fr lo 0 [(0, rv x0), (1, rv x1)] [] h Q := by
  unfold bX2_literal at hq
  refine x_aload_n 0 dX2_literal_0 rfl ?_
  obtain ⟨g1, hq⟩ := hq
  refine x_get (v := .int (fI h x0 521)) fdX2_63 dX2_literal_1 g1 rfl ?_
  refine x_istore_n (lv' := [(2, .int (fI h x0 521)), (0, rv x0), (1, rv x1)]) dX2_literal_4 (by decide) (by first | rfl | (simp [rv_cat, Value.category]; done) | (simp [rv_cat, Value.category]; decide)) ?_
  refine x_iconst (v := 0) dX2_literal_5 (by decide) ?_
  refine x_istore_n (lv' := [(3, .int 0), (2, .int (fI h x0 521)), (0, rv x0), (1, rv x1)]) dX2_literal_6 (by decide) rfl ?_
  refine xP.pick (lv' := [(0, rv x0), (1, rv x1), (2, .int (fI h x0 521)), (3, .int 0)]) [2, 3, 1, 0] rfl ?_
  exact hq
theorem rX2_literal {G : xG} {fr lo : Nat} {x0 : Nat} {x1 : Nat} {h : xH} {Q : Outcome → xH → Prop} (hq : bX2_literal G fr lo x0 x1 h Q) : xR G YX2_literal fr lo [rv x0, rv x1] h Q := by
  show xP _ _ _ _ _ (lv_args 0 _) _ _ _
  rw [show lv_args 0 [rv x0, rv x1] = [(0, rv x0), (1, rv x1)] from (xla1 (rv_cat _) (xla1 (rv_cat _) xla0))]
  exact uX2_literal hq
set_option maxRecDepth 100000 in
theorem dX2_put_0 : decode cX2_put 0 = .ok (.aload_n 0, 1) := by decide +kernel
set_option maxRecDepth 100000 in
theorem dX2_put_1 : decode cX2_put 1 = .ok (.getfield 56, 3) := by decide +kernel
set_option maxRecDepth 100000 in
theorem dX2_put_4 : decode cX2_put 4 = .ok (.aload_n 0, 1) := by decide +kernel
set_option maxRecDepth 100000 in
theorem dX2_put_5 : decode cX2_put 5 = .ok (.getfield 9, 3) := by decide +kernel
set_option maxRecDepth 100000 in
theorem dX2_put_8 : decode cX2_put 8 = .ok (.arraylength, 1) := by decide +kernel
set_option maxRecDepth 100000 in
theorem dX2_put_9 : decode cX2_put 9 = .ok (.if_icmp .ne 58, 3) := by decide +kernel
set_option maxRecDepth 100000 in
theorem dX2_put_12 : decode cX2_put 12 = .ok (.aload_n 0, 1) := by decide +kernel
set_option maxRecDepth 100000 in
theorem dX2_put_13 : decode cX2_put 13 = .ok (.aload_n 0, 1) := by decide +kernel
set_option maxRecDepth 100000 in
theorem dX2_put_14 : decode cX2_put 14 = .ok (.getfield 9, 3) := by decide +kernel
set_option maxRecDepth 100000 in
theorem dX2_put_17 : decode cX2_put 17 = .ok (.invokestatic 75, 3) := by decide +kernel
set_option maxRecDepth 100000 in
theorem dX2_put_20 : decode cX2_put 20 = .ok (.putfield 9, 3) := by decide +kernel
set_option maxRecDepth 100000 in
theorem dX2_put_23 : decode cX2_put 23 = .ok (.aload_n 0, 1) := by decide +kernel
set_option maxRecDepth 100000 in
theorem dX2_put_24 : decode cX2_put 24 = .ok (.aload_n 0, 1) := by decide +kernel
set_option maxRecDepth 100000 in
theorem dX2_put_25 : decode cX2_put 25 = .ok (.getfield 15, 3) := by decide +kernel
set_option maxRecDepth 100000 in
theorem dX2_put_28 : decode cX2_put 28 = .ok (.invokestatic 75, 3) := by decide +kernel
set_option maxRecDepth 100000 in
theorem dX2_put_31 : decode cX2_put 31 = .ok (.putfield 15, 3) := by decide +kernel
set_option maxRecDepth 100000 in
theorem dX2_put_34 : decode cX2_put 34 = .ok (.aload_n 0, 1) := by decide +kernel
set_option maxRecDepth 100000 in
theorem dX2_put_35 : decode cX2_put 35 = .ok (.aload_n 0, 1) := by decide +kernel
set_option maxRecDepth 100000 in
theorem dX2_put_36 : decode cX2_put 36 = .ok (.getfield 18, 3) := by decide +kernel
set_option maxRecDepth 100000 in
theorem dX2_put_39 : decode cX2_put 39 = .ok (.invokestatic 75, 3) := by decide +kernel
set_option maxRecDepth 100000 in
theorem dX2_put_42 : decode cX2_put 42 = .ok (.putfield 18, 3) := by decide +kernel
set_option maxRecDepth 100000 in
theorem dX2_put_45 : decode cX2_put 45 = .ok (.aload_n 0, 1) := by decide +kernel
set_option maxRecDepth 100000 in
theorem dX2_put_46 : decode cX2_put 46 = .ok (.aload_n 0, 1) := by decide +kernel
set_option maxRecDepth 100000 in
theorem dX2_put_47 : decode cX2_put 47 = .ok (.getfield 21, 3) := by decide +kernel
set_option maxRecDepth 100000 in
theorem dX2_put_50 : decode cX2_put 50 = .ok (.invokestatic 75, 3) := by decide +kernel
set_option maxRecDepth 100000 in
theorem dX2_put_53 : decode cX2_put 53 = .ok (.putfield 21, 3) := by decide +kernel
set_option maxRecDepth 100000 in
theorem dX2_put_56 : decode cX2_put 56 = .ok (.aload_n 0, 1) := by decide +kernel
set_option maxRecDepth 100000 in
theorem dX2_put_57 : decode cX2_put 57 = .ok (.aload_n 0, 1) := by decide +kernel
set_option maxRecDepth 100000 in
theorem dX2_put_58 : decode cX2_put 58 = .ok (.getfield 24, 3) := by decide +kernel
set_option maxRecDepth 100000 in
theorem dX2_put_61 : decode cX2_put 61 = .ok (.invokestatic 75, 3) := by decide +kernel
set_option maxRecDepth 100000 in
theorem dX2_put_64 : decode cX2_put 64 = .ok (.putfield 24, 3) := by decide +kernel
set_option maxRecDepth 100000 in
theorem dX2_put_67 : decode cX2_put 67 = .ok (.aload_n 0, 1) := by decide +kernel
set_option maxRecDepth 100000 in
theorem dX2_put_68 : decode cX2_put 68 = .ok (.getfield 9, 3) := by decide +kernel
set_option maxRecDepth 100000 in
theorem dX2_put_71 : decode cX2_put 71 = .ok (.aload_n 0, 1) := by decide +kernel
set_option maxRecDepth 100000 in
theorem dX2_put_72 : decode cX2_put 72 = .ok (.getfield 56, 3) := by decide +kernel
set_option maxRecDepth 100000 in
theorem dX2_put_75 : decode cX2_put 75 = .ok (.iload_n 1, 1) := by decide +kernel
set_option maxRecDepth 100000 in
theorem dX2_put_76 : decode cX2_put 76 = .ok (.iastore, 1) := by decide +kernel
set_option maxRecDepth 100000 in
theorem dX2_put_77 : decode cX2_put 77 = .ok (.aload_n 0, 1) := by decide +kernel
set_option maxRecDepth 100000 in
theorem dX2_put_78 : decode cX2_put 78 = .ok (.getfield 15, 3) := by decide +kernel
set_option maxRecDepth 100000 in
theorem dX2_put_81 : decode cX2_put 81 = .ok (.aload_n 0, 1) := by decide +kernel
set_option maxRecDepth 100000 in
theorem dX2_put_82 : decode cX2_put 82 = .ok (.getfield 56, 3) := by decide +kernel
set_option maxRecDepth 100000 in
theorem dX2_put_85 : decode cX2_put 85 = .ok (.iload_n 2, 1) := by decide +kernel
set_option maxRecDepth 100000 in
theorem dX2_put_86 : decode cX2_put 86 = .ok (.iastore, 1) := by decide +kernel
set_option maxRecDepth 100000 in
theorem dX2_put_87 : decode cX2_put 87 = .ok (.aload_n 0, 1) := by decide +kernel
set_option maxRecDepth 100000 in
theorem dX2_put_88 : decode cX2_put 88 = .ok (.getfield 18, 3) := by decide +kernel
set_option maxRecDepth 100000 in
theorem dX2_put_91 : decode cX2_put 91 = .ok (.aload_n 0, 1) := by decide +kernel
set_option maxRecDepth 100000 in
theorem dX2_put_92 : decode cX2_put 92 = .ok (.getfield 56, 3) := by decide +kernel
set_option maxRecDepth 100000 in
theorem dX2_put_95 : decode cX2_put 95 = .ok (.iload_n 3, 1) := by decide +kernel
set_option maxRecDepth 100000 in
theorem dX2_put_96 : decode cX2_put 96 = .ok (.iastore, 1) := by decide +kernel
set_option maxRecDepth 100000 in
theorem dX2_put_97 : decode cX2_put 97 = .ok (.aload_n 0, 1) := by decide +kernel
set_option maxRecDepth 100000 in
theorem dX2_put_98 : decode cX2_put 98 = .ok (.getfield 21, 3) := by decide +kernel
set_option maxRecDepth 100000 in
theorem dX2_put_101 : decode cX2_put 101 = .ok (.aload_n 0, 1) := by decide +kernel
set_option maxRecDepth 100000 in
theorem dX2_put_102 : decode cX2_put 102 = .ok (.getfield 56, 3) := by decide +kernel
set_option maxRecDepth 100000 in
theorem dX2_put_105 : decode cX2_put 105 = .ok (.iload 4, 2) := by decide +kernel
set_option maxRecDepth 100000 in
theorem dX2_put_107 : decode cX2_put 107 = .ok (.iastore, 1) := by decide +kernel
set_option maxRecDepth 100000 in
theorem dX2_put_108 : decode cX2_put 108 = .ok (.aload_n 0, 1) := by decide +kernel
set_option maxRecDepth 100000 in
theorem dX2_put_109 : decode cX2_put 109 = .ok (.getfield 24, 3) := by decide +kernel
set_option maxRecDepth 100000 in
theorem dX2_put_112 : decode cX2_put 112 = .ok (.aload_n 0, 1) := by decide +kernel
set_option maxRecDepth 100000 in
theorem dX2_put_113 : decode cX2_put 113 = .ok (.getfield 56, 3) := by decide +kernel
set_option maxRecDepth 100000 in
theorem dX2_put_116 : decode cX2_put 116 = .ok (.iload 5, 2) := by decide +kernel
set_option maxRecDepth 100000 in
theorem dX2_put_118 : decode cX2_put 118 = .ok (.iastore, 1) := by decide +kernel
set_option maxRecDepth 100000 in
theorem dX2_put_119 : decode cX2_put 119 = .ok (.aload_n 0, 1) := by decide +kernel
set_option maxRecDepth 100000 in
theorem dX2_put_120 : decode cX2_put 120 = .ok (.dup, 1) := by decide +kernel
set_option maxRecDepth 100000 in
theorem dX2_put_121 : decode cX2_put 121 = .ok (.getfield 56, 3) := by decide +kernel
set_option maxRecDepth 100000 in
theorem dX2_put_124 : decode cX2_put 124 = .ok (.iconst 1, 1) := by decide +kernel
set_option maxRecDepth 100000 in
theorem dX2_put_125 : decode cX2_put 125 = .ok (.iadd, 1) := by decide +kernel
set_option maxRecDepth 100000 in
theorem dX2_put_126 : decode cX2_put 126 = .ok (.putfield 56, 3) := by decide +kernel
set_option maxRecDepth 100000 in
theorem dX2_put_129 : decode cX2_put 129 = .ok (.aload_n 0, 1) := by decide +kernel
set_option maxRecDepth 100000 in
theorem dX2_put_130 : decode cX2_put 130 = .ok (.getfield 56, 3) := by decide +kernel
set_option maxRecDepth 100000 in
theorem dX2_put_133 : decode cX2_put 133 = .ok (.iconst 1, 1) := by decide +kernel
set_option maxRecDepth 100000 in
theorem dX2_put_134 : decode cX2_put 134 = .ok (.isub, 1) := by decide +kernel
set_option maxRecDepth 100000 in
theorem dX2_put_135 : decode cX2_put 135 = .ok (.ireturn, 1) := by decide +kernel
set_option maxRecDepth 100000 in
def bX2_put_67 (G : xG) (fr lo : Nat) (x0 : Nat) (x1 : Int32) (x2 : Int32) (x3 : Int32) (x4 : Int32) (x5 : Int32) (h : xH) (Q : Outcome → xH → Prop) : Prop := tg h x0 = 3 ∧ tg h (fR h x0 512) = 100 ∧ vp_in (fI h x0 517) (ln h (fR h x0 512)) ∧ (∀ h4 : xH, h4 = tI h (fR h x0 512) (Int32.toNatClampNeg (fI h x0 517)) x1 → tg h4 (fR h4 x0 513) = 100 ∧ vp_in (fI h4 x0 517) (ln h4 (fR h4 x0 513)) ∧ (∀ h9 : xH, h9 = tI h4 (fR h4 x0 513) (Int32.toNatClampNeg (fI h4 x0 517)) x2 → tg h9 (fR h9 x0 514) = 100 ∧ vp_in (fI h9 x0 517) (ln h9 (fR h9 x0 514)) ∧ (∀ h14 : xH, h14 = tI h9 (fR h9 x0 514) (Int32.toNatClampNeg (fI h9 x0 517)) x3 → tg h14 (fR h14 x0 515) = 100 ∧ vp_in (fI h14 x0 517) (ln h14 (fR h14 x0 515)) ∧ (∀ h19 : xH, h19 = tI h14 (fR h14 x0 515) (Int32.toNatClampNeg (fI h14 x0 517)) x4 → tg h19 (fR h19 x0 516) = 100 ∧ vp_in (fI h19 x0 517) (ln h19 (fR h19 x0 516)) ∧ (∀ h24 : xH, h24 = tI h19 (fR h19 x0 516) (Int32.toNatClampNeg (fI h19 x0 517)) x5 → (∀ h27 : xH, h27 = sI h24 x0 517 ((fI h24 x0 517) + 1) → Q (.returned (some (.int ((fI h27 x0 517) - 1)))) h27))))))
set_option maxRecDepth 100000 in
theorem uX2_put_67 {G : xG} {fr lo : Nat} {x0 : Nat} {x1 : Int32} {x2 : Int32} {x3 : Int32} {x4 : Int32} {x5 : Int32} {h : xH} {Q : Outcome → xH → Prop} (hq : bX2_put_67 G fr lo x0 x1 x2 x3 x4 x5 h Q) : xP G YX2_put fr lo 67 [(0, rv x0), (1, .int x1), (2, .int x2), (3, .int x3), (4, .int x4), (5, .int x5)] [] h Q := by
  unfold bX2_put_67 at hq
  refine x_aload_n 0 dX2_put_67 rfl ?_
  obtain ⟨g1, hq⟩ := hq
  refine x_get (v := rv (fR h x0 512)) fdX2_9 dX2_put_68 g1 rfl ?_
  refine x_aload_n 0 dX2_put_71 rfl ?_
  refine x_get (v := .int (fI h x0 517)) fdX2_56 dX2_put_72 g1 rfl ?_
  refine x_iload_n 1 dX2_put_75 rfl ?_
  obtain ⟨g2, hq⟩ := hq
  obtain ⟨i3, hq⟩ := hq
  obtain ⟨h4, e5⟩ : ∃ y, y = tI h (fR h x0 512) (Int32.toNatClampNeg (fI h x0 517)) x1 := ⟨_, rfl⟩
  replace hq := hq h4 e5
  refine x_iast' g2 i3 dX2_put_76 e5 ?_
  refine x_aload_n 0 dX2_put_77 rfl ?_
  have t6 : tg h4 x0 = 3 := by rw [e5]; exact g1
  refine x_get (v := rv (fR h4 x0 513)) fdX2_15 dX2_put_78 t6 rfl ?_
  refine x_aload_n 0 dX2_put_81 rfl ?_
  refine x_get (v := .int (fI h4 x0 517)) fdX2_56 dX2_put_82 t6 rfl ?_
  refine x_iload_n 2 dX2_put_85 rfl ?_
  obtain ⟨g7, hq⟩ := hq
  obtain ⟨i8, hq⟩ := hq
  obtain ⟨h9, e10⟩ : ∃ y, y = tI h4 (fR h4 x0 513) (Int32.toNatClampNeg (fI h4 x0 517)) x2 := ⟨_, rfl⟩
  replace hq := hq h9 e10
  refine x_iast' g7 i8 dX2_put_86 e10 ?_
  refine x_aload_n 0 dX2_put_87 rfl ?_
  have t11 : tg h9 x0 = 3 := by rw [e10]; exact t6
  refine x_get (v := rv (fR h9 x0 514)) fdX2_18 dX2_put_88 t11 rfl ?_
  refine x_aload_n 0 dX2_put_91 rfl ?_
  refine x_get (v := .int (fI h9 x0 517)) fdX2_56 dX2_put_92 t11 rfl ?_
  refine x_iload_n 3 dX2_put_95 rfl ?_
  obtain ⟨g12, hq⟩ := hq
  obtain ⟨i13, hq⟩ := hq
  obtain ⟨h14, e15⟩ : ∃ y, y = tI h9 (fR h9 x0 514) (Int32.toNatClampNeg (fI h9 x0 517)) x3 := ⟨_, rfl⟩
  replace hq := hq h14 e15
  refine x_iast' g12 i13 dX2_put_96 e15 ?_
  refine x_aload_n 0 dX2_put_97 rfl ?_
  have t16 : tg h14 x0 = 3 := by rw [e15]; exact t11
  refine x_get (v := rv (fR h14 x0 515)) fdX2_21 dX2_put_98 t16 rfl ?_
  refine x_aload_n 0 dX2_put_101 rfl ?_
  refine x_get (v := .int (fI h14 x0 517)) fdX2_56 dX2_put_102 t16 rfl ?_
  refine x_iload 4 dX2_put_105 rfl ?_
  obtain ⟨g17, hq⟩ := hq
  obtain ⟨i18, hq⟩ := hq
  obtain ⟨h19, e20⟩ : ∃ y, y = tI h14 (fR h14 x0 515) (Int32.toNatClampNeg (fI h14 x0 517)) x4 := ⟨_, rfl⟩
  replace hq := hq h19 e20
  refine x_iast' g17 i18 dX2_put_107 e20 ?_
  refine x_aload_n 0 dX2_put_108 rfl ?_
  have t21 : tg h19 x0 = 3 := by rw [e20]; exact t16
  refine x_get (v := rv (fR h19 x0 516)) fdX2_24 dX2_put_109 t21 rfl ?_
  refine x_aload_n 0 dX2_put_112 rfl ?_
  refine x_get (v := .int (fI h19 x0 517)) fdX2_56 dX2_put_113 t21 rfl ?_
  refine x_iload 5 dX2_put_116 rfl ?_
  obtain ⟨g22, hq⟩ := hq
  obtain ⟨i23, hq⟩ := hq
  obtain ⟨h24, e25⟩ : ∃ y, y = tI h19 (fR h19 x0 516) (Int32.toNatClampNeg (fI h19 x0 517)) x5 := ⟨_, rfl⟩
  replace hq := hq h24 e25
  refine x_iast' g22 i23 dX2_put_118 e25 ?_
  refine x_aload_n 0 dX2_put_119 rfl ?_
  refine x_dup dX2_put_120 (rv_cat _) ?_
  have t26 : tg h24 x0 = 3 := by rw [e25]; exact t21
  refine x_get (v := .int (fI h24 x0 517)) fdX2_56 dX2_put_121 t26 rfl ?_
  refine x_iconst (v := 1) dX2_put_124 (by decide) ?_
  refine x_iadd dX2_put_125 ?_
  obtain ⟨h27, e28⟩ : ∃ y, y = sI h24 x0 517 ((fI h24 x0 517) + 1) := ⟨_, rfl⟩
  replace hq := hq h27 e28
  refine x_putI fdX2_56 xty_I1 dX2_put_126 t26 (Or.inl (by rw [t26]; rfl)) xnI rfl e28 ?_
  refine x_aload_n 0 dX2_put_129 rfl ?_
  have t29 : tg h27 x0 = 3 := by rw [e28]; exact t26
  refine x_get (v := .int (fI h27 x0 517)) fdX2_56 dX2_put_130 t29 rfl ?_
  refine x_iconst (v := 1) dX2_put_133 (by decide) ?_
  refine x_isub dX2_put_134 ?_
  exact x_iret rfl rfl dX2_put_135 hq
set_option maxRecDepth 100000 in
def bX2_put (G : xG) (fr lo : Nat) (x0 : Nat) (x1 : Int32) (x2 : Int32) (x3 : Int32) (x4 : Int32) (x5 : Int32) (h : xH) (Q : Outcome → xH → Prop) : Prop := tg h x0 = 3 ∧ tg h (fR h x0 512) = 100 ∧ ((¬ (fI h x0 517) = (Int32.ofNat (ln h (fR h x0 512))) → bX2_put_67 G fr lo x0 x1 x2 x3 x4 x5 h Q) ∧ ((fI h x0 517) = (Int32.ofNat (ln h (fR h x0 512))) → 1 ≤ fr ∧ 15 ≤ lo ∧ xRr G YX2_longer (fr - 1) (lo - 15) [rv (fR h x0 512)] h (fun x7 h6 => xext h h6 → (∀ h10 : xH, h10 = sR h6 x0 512 x7 → 1 ≤ fr ∧ 15 ≤ lo ∧ xRr G YX2_longer (fr - 1) (lo - 15) [rv (fR h10 x0 513)] h10 (fun x16 h15 => xext h10 h15 → (∀ h19 : xH, h19 = sR h15 x0 513 x16 → 1 ≤ fr ∧ 15 ≤ lo ∧ xRr G YX2_longer (fr - 1) (lo - 15) [rv (fR h19 x0 514)] h19 (fun x25 h24 => xext h19 h24 → (∀ h28 : xH, h28 = sR h24 x0 514 x25 → 1 ≤ fr ∧ 15 ≤ lo ∧ xRr G YX2_longer (fr - 1) (lo - 15) [rv (fR h28 x0 515)] h28 (fun x34 h33 => xext h28 h33 → (∀ h37 : xH, h37 = sR h33 x0 515 x34 → 1 ≤ fr ∧ 15 ≤ lo ∧ xRr G YX2_longer (fr - 1) (lo - 15) [rv (fR h37 x0 516)] h37 (fun x43 h42 => xext h37 h42 → (∀ h46 : xH, h46 = sR h42 x0 516 x43 → bX2_put_67 G fr lo x0 x1 x2 x3 x4 x5 h46 Q)) (fun r h2 => Q (.threw r) h2))) (fun r h2 => Q (.threw r) h2))) (fun r h2 => Q (.threw r) h2))) (fun r h2 => Q (.threw r) h2))) (fun r h2 => Q (.threw r) h2)))
set_option maxRecDepth 100000 in
theorem uX2_put {G : xG} {fr lo : Nat} {x0 : Nat} {x1 : Int32} {x2 : Int32} {x3 : Int32} {x4 : Int32} {x5 : Int32} {h : xH} {Q : Outcome → xH → Prop} (hq : bX2_put G fr lo x0 x1 x2 x3 x4 x5 h Q) : xP G YX2_put fr lo 0 [(0, rv x0), (1, .int x1), (2, .int x2), (3, .int x3), (4, .int x4), (5, .int x5)] [] h Q := by
  unfold bX2_put at hq
  refine x_aload_n 0 dX2_put_0 rfl ?_
  obtain ⟨g1, hq⟩ := hq
  refine x_get (v := .int (fI h x0 517)) fdX2_56 dX2_put_1 g1 rfl ?_
  refine x_aload_n 0 dX2_put_4 rfl ?_
  refine x_get (v := rv (fR h x0 512)) fdX2_9 dX2_put_5 g1 rfl ?_
  obtain ⟨g2, hq⟩ := hq
  refine x_alen 0 g2 (by decide) dX2_put_8 ?_
  refine x_icmp_ne (tgt := 67) dX2_put_9 (by decide) (fun c3 => ?_) (fun c3 => ?_)
  · replace hq := hq.1 c3
    exact uX2_put_67 hq
  · replace hq := hq.2 c3
    refine x_aload_n 0 dX2_put_12 rfl ?_
    refine x_aload_n 0 dX2_put_13 rfl ?_
    refine x_get (v := rv (fR h x0 512)) fdX2_9 dX2_put_14 g1 rfl ?_
    obtain ⟨g4, g5, hq⟩ := hq
    refine x_callS (Yc := YX2_longer) (as := [rv (fR h x0 512)]) (st := [rv x0]) q2202 msX2_longer rfl dX2_put_17 (xle (xal1 (rv_cat _) xal0) (by decide)) (xfr g4) (xlo (xsw1 (rv_cat _) xsw0) (by decide) g5) (xKr hq (fun x7 h6 hq e8 => ?_) (fun _ _ q _ => q))
    replace hq := hq e8
    have t9 : tg h6 x0 = 3 := e8.tg g1 (by decide)
    obtain ⟨h10, e11⟩ : ∃ y, y = sR h6 x0 512 x7 := ⟨_, rfl⟩
    replace hq := hq h10 e11
    refine x_putR fdX2_9 xty_A dX2_put_20 t9 (Or.inl (by rw [t9]; rfl)) rfl e11 ?_
    refine x_aload_n 0 dX2_put_23 rfl ?_
    refine x_aload_n 0 dX2_put_24 rfl ?_
    have t12 : tg h10 x0 = 3 := by rw [e11]; exact t9
    refine x_get (v := rv (fR h10 x0 513)) fdX2_15 dX2_put_25 t12 rfl ?_
    obtain ⟨g13, g14, hq⟩ := hq
    refine x_callS (Yc := YX2_longer) (as := [rv (fR h10 x0 513)]) (st := [rv x0]) q2202 msX2_longer rfl dX2_put_28 (xle (xal1 (rv_cat _) xal0) (by decide)) (xfr g13) (xlo (xsw1 (rv_cat _) xsw0) (by decide) g14) (xKr hq (fun x16 h15 hq e17 => ?_) (fun _ _ q _ => q))
    replace hq := hq e17
    have t18 : tg h15 x0 = 3 := e17.tg t12 (by decide)
    obtain ⟨h19, e20⟩ : ∃ y, y = sR h15 x0 513 x16 := ⟨_, rfl⟩
    replace hq := hq h19 e20
    refine x_putR fdX2_15 xty_A dX2_put_31 t18 (Or.inl (by rw [t18]; rfl)) rfl e20 ?_
    refine x_aload_n 0 dX2_put_34 rfl ?_
    refine x_aload_n 0 dX2_put_35 rfl ?_
    have t21 : tg h19 x0 = 3 := by rw [e20]; exact t18
    refine x_get (v := rv (fR h19 x0 514)) fdX2_18 dX2_put_36 t21 rfl ?_
    obtain ⟨g22, g23, hq⟩ := hq
    refine x_callS (Yc := YX2_longer) (as := [rv (fR h19 x0 514)]) (st := [rv x0]) q2202 msX2_longer rfl dX2_put_39 (xle (xal1 (rv_cat _) xal0) (by decide)) (xfr g22) (xlo (xsw1 (rv_cat _) xsw0) (by decide) g23) (xKr hq (fun x25 h24 hq e26 => ?_) (fun _ _ q _ => q))
    replace hq := hq e26
    have t27 : tg h24 x0 = 3 := e26.tg t21 (by decide)
    obtain ⟨h28, e29⟩ : ∃ y, y = sR h24 x0 514 x25 := ⟨_, rfl⟩
    replace hq := hq h28 e29
    refine x_putR fdX2_18 xty_A dX2_put_42 t27 (Or.inl (by rw [t27]; rfl)) rfl e29 ?_
    refine x_aload_n 0 dX2_put_45 rfl ?_
    refine x_aload_n 0 dX2_put_46 rfl ?_
    have t30 : tg h28 x0 = 3 := by rw [e29]; exact t27
    refine x_get (v := rv (fR h28 x0 515)) fdX2_21 dX2_put_47 t30 rfl ?_
    obtain ⟨g31, g32, hq⟩ := hq
    refine x_callS (Yc := YX2_longer) (as := [rv (fR h28 x0 515)]) (st := [rv x0]) q2202 msX2_longer rfl dX2_put_50 (xle (xal1 (rv_cat _) xal0) (by decide)) (xfr g31) (xlo (xsw1 (rv_cat _) xsw0) (by decide) g32) (xKr hq (fun x34 h33 hq e35 => ?_) (fun _ _ q _ => q))
    replace hq := hq e35
    have t36 : tg h33 x0 = 3 := e35.tg t30 (by decide)
    obtain ⟨h37, e38⟩ : ∃ y, y = sR h33 x0 515 x34 := ⟨_, rfl⟩
    replace hq := hq h37 e38
    refine x_putR fdX2_21 xty_A dX2_put_53 t36 (Or.inl (by rw [t36]; rfl)) rfl e38 ?_
    refine x_aload_n 0 dX2_put_56 rfl ?_
    refine x_aload_n 0 dX2_put_57 rfl ?_
    have t39 : tg h37 x0 = 3 := by rw [e38]; exact t36
    refine x_get (v := rv (fR h37 x0 516)) fdX2_24 dX2_put_58 t39 rfl ?_
    obtain ⟨g40, g41, hq⟩ := hq
    refine x_callS (Yc := YX2_longer) (as := [rv (fR h37 x0 516)]) (st := [rv x0]) q2202 msX2_longer rfl dX2_put_61 (xle (xal1 (rv_cat _) xal0) (by decide)) (xfr g40) (xlo (xsw1 (rv_cat _) xsw0) (by decide) g41) (xKr hq (fun x43 h42 hq e44 => ?_) (fun _ _ q _ => q))
    replace hq := hq e44
    have t45 : tg h42 x0 = 3 := e44.tg t39 (by decide)
    obtain ⟨h46, e47⟩ : ∃ y, y = sR h42 x0 516 x43 := ⟨_, rfl⟩
    replace hq := hq h46 e47
    refine x_putR fdX2_24 xty_A dX2_put_64 t45 (Or.inl (by rw [t45]; rfl)) rfl e47 ?_
    exact uX2_put_67 hq
theorem rX2_put {G : xG} {fr lo : Nat} {x0 : Nat} {x1 : Int32} {x2 : Int32} {x3 : Int32} {x4 : Int32} {x5 : Int32} {h : xH} {Q : Outcome → xH → Prop} (hq : bX2_put G fr lo x0 x1 x2 x3 x4 x5 h Q) : xR G YX2_put fr lo [rv x0, .int x1, .int x2, .int x3, .int x4, .int x5] h Q := by
  show xP _ _ _ _ _ (lv_args 0 _) _ _ _
  rw [show lv_args 0 [rv x0, .int x1, .int x2, .int x3, .int x4, .int x5] = [(0, rv x0), (1, .int x1), (2, .int x2), (3, .int x3), (4, .int x4), (5, .int x5)] from (xla1 (rv_cat _) (xla1 rfl (xla1 rfl (xla1 rfl (xla1 rfl (xla1 rfl xla0))))))]
  exact uX2_put hq
set_option maxRecDepth 100000 in
theorem dX2_real_0 : decode cX2_real 0 = .ok (.aload_n 0, 1) := by decide +kernel
set_option maxRecDepth 100000 in
theorem dX2_real_1 : decode cX2_real 1 = .ok (.getfield 60, 3) := by decide +kernel
set_option maxRecDepth 100000 in
theorem dX2_real_4 : decode cX2_real 4 = .ok (.aload_n 0, 1) := by decide +kernel
set_option maxRecDepth 100000 in
theorem dX2_real_5 : decode cX2_real 5 = .ok (.getfield 27, 3) := by decide +kernel
set_option maxRecDepth 100000 in
theorem dX2_real_8 : decode cX2_real 8 = .ok (.arraylength, 1) := by decide +kernel
set_option maxRecDepth 100000 in
theorem dX2_real_9 : decode cX2_real 9 = .ok (.if_icmp .ne 46, 3) := by decide +kernel
set_option maxRecDepth 100000 in
theorem dX2_real_12 : decode cX2_real 12 = .ok (.iconst 2, 1) := by decide +kernel
set_option maxRecDepth 100000 in
theorem dX2_real_13 : decode cX2_real 13 = .ok (.aload_n 0, 1) := by decide +kernel
set_option maxRecDepth 100000 in
theorem dX2_real_14 : decode cX2_real 14 = .ok (.getfield 60, 3) := by decide +kernel
set_option maxRecDepth 100000 in
theorem dX2_real_17 : decode cX2_real 17 = .ok (.imul, 1) := by decide +kernel
set_option maxRecDepth 100000 in
theorem dX2_real_18 : decode cX2_real 18 = .ok (.newarray .double, 2) := by decide +kernel
set_option maxRecDepth 100000 in
theorem dX2_real_20 : decode cX2_real 20 = .ok (.astore_n 3, 1) := by decide +kernel
set_option maxRecDepth 100000 in
theorem dX2_real_21 : decode cX2_real 21 = .ok (.iconst 0, 1) := by decide +kernel
set_option maxRecDepth 100000 in
theorem dX2_real_22 : decode cX2_real 22 = .ok (.istore 4, 2) := by decide +kernel
set_option maxRecDepth 100000 in
theorem dX2_real_24 : decode cX2_real 24 = .ok (.iload 4, 2) := by decide +kernel
set_option maxRecDepth 100000 in
theorem dX2_real_26 : decode cX2_real 26 = .ok (.aload_n 0, 1) := by decide +kernel
set_option maxRecDepth 100000 in
theorem dX2_real_27 : decode cX2_real 27 = .ok (.getfield 60, 3) := by decide +kernel
set_option maxRecDepth 100000 in
theorem dX2_real_30 : decode cX2_real 30 = .ok (.if_icmp .ge 20, 3) := by decide +kernel
set_option maxRecDepth 100000 in
theorem dX2_real_33 : decode cX2_real 33 = .ok (.aload_n 3, 1) := by decide +kernel
set_option maxRecDepth 100000 in
theorem dX2_real_34 : decode cX2_real 34 = .ok (.iload 4, 2) := by decide +kernel
set_option maxRecDepth 100000 in
theorem dX2_real_36 : decode cX2_real 36 = .ok (.aload_n 0, 1) := by decide +kernel
set_option maxRecDepth 100000 in
theorem dX2_real_37 : decode cX2_real 37 = .ok (.getfield 27, 3) := by decide +kernel
set_option maxRecDepth 100000 in
theorem dX2_real_40 : decode cX2_real 40 = .ok (.iload 4, 2) := by decide +kernel
set_option maxRecDepth 100000 in
theorem dX2_real_42 : decode cX2_real 42 = .ok (.daload, 1) := by decide +kernel
set_option maxRecDepth 100000 in
theorem dX2_real_43 : decode cX2_real 43 = .ok (.dastore, 1) := by decide +kernel
set_option maxRecDepth 100000 in
theorem dX2_real_44 : decode cX2_real 44 = .ok (.iinc 4 1, 3) := by decide +kernel
set_option maxRecDepth 100000 in
theorem dX2_real_47 : decode cX2_real 47 = .ok (.goto (-23), 3) := by decide +kernel
set_option maxRecDepth 100000 in
theorem dX2_real_50 : decode cX2_real 50 = .ok (.aload_n 0, 1) := by decide +kernel
set_option maxRecDepth 100000 in
theorem dX2_real_51 : decode cX2_real 51 = .ok (.aload_n 3, 1) := by decide +kernel
set_option maxRecDepth 100000 in
theorem dX2_real_52 : decode cX2_real 52 = .ok (.putfield 27, 3) := by decide +kernel
set_option maxRecDepth 100000 in
theorem dX2_real_55 : decode cX2_real 55 = .ok (.aload_n 0, 1) := by decide +kernel
set_option maxRecDepth 100000 in
theorem dX2_real_56 : decode cX2_real 56 = .ok (.getfield 27, 3) := by decide +kernel
set_option maxRecDepth 100000 in
theorem dX2_real_59 : decode cX2_real 59 = .ok (.aload_n 0, 1) := by decide +kernel
set_option maxRecDepth 100000 in
theorem dX2_real_60 : decode cX2_real 60 = .ok (.getfield 60, 3) := by decide +kernel
set_option maxRecDepth 100000 in
theorem dX2_real_63 : decode cX2_real 63 = .ok (.dload_n 1, 1) := by decide +kernel
set_option maxRecDepth 100000 in
theorem dX2_real_64 : decode cX2_real 64 = .ok (.dastore, 1) := by decide +kernel
set_option maxRecDepth 100000 in
theorem dX2_real_65 : decode cX2_real 65 = .ok (.aload_n 0, 1) := by decide +kernel
set_option maxRecDepth 100000 in
theorem dX2_real_66 : decode cX2_real 66 = .ok (.dup, 1) := by decide +kernel
set_option maxRecDepth 100000 in
theorem dX2_real_67 : decode cX2_real 67 = .ok (.getfield 60, 3) := by decide +kernel
set_option maxRecDepth 100000 in
theorem dX2_real_70 : decode cX2_real 70 = .ok (.iconst 1, 1) := by decide +kernel
set_option maxRecDepth 100000 in
theorem dX2_real_71 : decode cX2_real 71 = .ok (.iadd, 1) := by decide +kernel
set_option maxRecDepth 100000 in
theorem dX2_real_72 : decode cX2_real 72 = .ok (.putfield 60, 3) := by decide +kernel
set_option maxRecDepth 100000 in
theorem dX2_real_75 : decode cX2_real 75 = .ok (.aload_n 0, 1) := by decide +kernel
set_option maxRecDepth 100000 in
theorem dX2_real_76 : decode cX2_real 76 = .ok (.getfield 60, 3) := by decide +kernel
set_option maxRecDepth 100000 in
theorem dX2_real_79 : decode cX2_real 79 = .ok (.iconst 1, 1) := by decide +kernel
set_option maxRecDepth 100000 in
theorem dX2_real_80 : decode cX2_real 80 = .ok (.isub, 1) := by decide +kernel
set_option maxRecDepth 100000 in
theorem dX2_real_81 : decode cX2_real 81 = .ok (.ireturn, 1) := by decide +kernel
def lX2_real_24 (G : xG) (fr lo : Nat) (x0 : Nat) (x1 : UInt64) (x3 : Nat) (x4 : Int32) (h : xH) (Q : Outcome → xH → Prop) : Prop := xP G YX2_real fr lo 24 [(0, rv x0), (1, .double x1), (3, rv x3), (4, .int x4)] [] h Q
set_option maxRecDepth 100000 in
def bX2_real_55 (G : xG) (fr lo : Nat) (x0 : Nat) (x1 : UInt64) (h : xH) (Q : Outcome → xH → Prop) : Prop := tg h x0 = 3 ∧ tg h (fR h x0 518) = 102 ∧ vp_in (fI h x0 519) (ln h (fR h x0 518)) ∧ (∀ h4 : xH, h4 = tD h (fR h x0 518) (Int32.toNatClampNeg (fI h x0 519)) x1 → (∀ h7 : xH, h7 = sI h4 x0 519 ((fI h4 x0 519) + 1) → Q (.returned (some (.int ((fI h7 x0 519) - 1)))) h7))
set_option maxRecDepth 100000 in
theorem uX2_real_55 {G : xG} {fr lo : Nat} {x0 : Nat} {x1 : UInt64} {h : xH} {Q : Outcome → xH → Prop} (hq : bX2_real_55 G fr lo x0 x1 h Q) : xP G YX2_real fr lo 55 [(0, rv x0), (1, .double x1)] [] h Q := by
  unfold bX2_real_55 at hq
  refine x_aload_n 0 dX2_real_55 rfl ?_
  obtain ⟨g1, hq⟩ := hq
  refine x_get (v := rv (fR h x0 518)) fdX2_27 dX2_real_56 g1 rfl ?_
  refine x_aload_n 0 dX2_real_59 rfl ?_
  refine x_get (v := .int (fI h x0 519)) fdX2_60 dX2_real_60 g1 rfl ?_
  refine x_dload_n 1 dX2_real_63 rfl ?_
  obtain ⟨g2, hq⟩ := hq
  obtain ⟨i3, hq⟩ := hq
  obtain ⟨h4, e5⟩ : ∃ y, y = tD h (fR h x0 518) (Int32.toNatClampNeg (fI h x0 519)) x1 := ⟨_, rfl⟩
  replace hq := hq h4 e5
  refine x_dast' g2 i3 dX2_real_64 e5 ?_
  refine x_aload_n 0 dX2_real_65 rfl ?_
  refine x_dup dX2_real_66 (rv_cat _) ?_
  have t6 : tg h4 x0 = 3 := by rw [e5]; exact g1
  refine x_get (v := .int (fI h4 x0 519)) fdX2_60 dX2_real_67 t6 rfl ?_
  refine x_iconst (v := 1) dX2_real_70 (by decide) ?_
  refine x_iadd dX2_real_71 ?_
  obtain ⟨h7, e8⟩ : ∃ y, y = sI h4 x0 519 ((fI h4 x0 519) + 1) := ⟨_, rfl⟩
  replace hq := hq h7 e8
  refine x_putI fdX2_60 xty_I1 dX2_real_72 t6 (Or.inl (by rw [t6]; rfl)) xnI rfl e8 ?_
  refine x_aload_n 0 dX2_real_75 rfl ?_
  have t9 : tg h7 x0 = 3 := by rw [e8]; exact t6
  refine x_get (v := .int (fI h7 x0 519)) fdX2_60 dX2_real_76 t9 rfl ?_
  refine x_iconst (v := 1) dX2_real_79 (by decide) ?_
  refine x_isub dX2_real_80 ?_
  exact x_iret rfl rfl dX2_real_81 hq
set_option maxRecDepth 100000 in
def bX2_real_24 (G : xG) (fr lo : Nat) (x0 : Nat) (x1 : UInt64) (x3 : Nat) (x4 : Int32) (h : xH) (Q : Outcome → xH → Prop) : Prop := tg h x0 = 3 ∧ (((fI h x0 519) ≤ x4 → (∀ h3 : xH, h3 = sR h x0 518 x3 → bX2_real_55 G fr lo x0 x1 h3 Q)) ∧ (¬ (fI h x0 519) ≤ x4 → tg h (fR h x0 518) = 102 ∧ vp_in x4 (ln h (fR h x0 518)) ∧ tg h x3 = 102 ∧ vp_in x4 (ln h x3) ∧ (∀ h9 : xH, h9 = tD h x3 (Int32.toNatClampNeg x4) (aD h (fR h x0 518) (Int32.toNatClampNeg x4)) → lX2_real_24 G fr lo x0 x1 x3 (x4 + 1) h9 Q)))
set_option maxRecDepth 100000 in
theorem uX2_real_24 {G : xG} {fr lo : Nat} {x0 : Nat} {x1 : UInt64} {x3 : Nat} {x4 : Int32} {h : xH} {Q : Outcome → xH → Prop} (hq : bX2_real_24 G fr lo x0 x1 x3 x4 h Q) : xP G YX2_real fr lo 24 [(0, rv x0), (1, .double x1), (3, rv x3), (4, .int x4)] [] h Q := by
  unfold bX2_real_24 at hq
  refine x_iload 3 dX2_real_24 rfl ?_
  refine x_aload_n 0 dX2_real_26 rfl ?_
  obtain ⟨g1, hq⟩ := hq
  refine x_get (v := .int (fI h x0 519)) fdX2_60 dX2_real_27 g1 rfl ?_
  refine x_icmp_ge (tgt := 50) dX2_real_30 (by decide) (fun c2 => ?_) (fun c2 => ?_)
  · replace hq := hq.1 c2
    refine x_aload_n 0 dX2_real_50 rfl ?_
    refine x_aload_n 2 dX2_real_51 rfl ?_
    obtain ⟨h3, e4⟩ : ∃ y, y = sR h x0 518 x3 := ⟨_, rfl⟩
    replace hq := hq h3 e4
    refine x_putR fdX2_27 xty_A dX2_real_52 g1 (Or.inl (by rw [g1]; rfl)) rfl e4 ?_
    refine xP.pick (lv' := [(0, rv x0), (1, .double x1)]) [0, 1] rfl ?_
    exact uX2_real_55 hq
  · replace hq := hq.2 c2
    refine x_aload_n 2 dX2_real_33 rfl ?_
    refine x_iload 3 dX2_real_34 rfl ?_
    refine x_aload_n 0 dX2_real_36 rfl ?_
    refine x_get (v := rv (fR h x0 518)) fdX2_27 dX2_real_37 g1 rfl ?_
    refine x_iload 3 dX2_real_40 rfl ?_
    obtain ⟨g5, hq⟩ := hq
    obtain ⟨i6, hq⟩ := hq
    refine x_dald g5 i6 dX2_real_42 ?_
    obtain ⟨g7, hq⟩ := hq
    obtain ⟨i8, hq⟩ := hq
    obtain ⟨h9, e10⟩ : ∃ y, y = tD h x3 (Int32.toNatClampNeg x4) (aD h (fR h x0 518) (Int32.toNatClampNeg x4)) := ⟨_, rfl⟩
    replace hq := hq h9 e10
    refine x_dast' g7 i8 dX2_real_43 e10 ?_
    refine x_iinc (lv' := [(4, .int (x4 + 1)), (0, rv x0), (1, .double x1), (3, rv x3)]) 3 dX2_real_44 rfl (by decide) (by first | rfl | (simp [rv_cat, Value.category]; done) | (simp [rv_cat, Value.category]; decide)) ?_
    refine x_goto (tgt := 24) dX2_real_47 (by decide) ?_
    refine xP.pick (lv' := [(0, rv x0), (1, .double x1), (3, rv x3), (4, .int (x4 + 1))]) [1, 2, 3, 0] rfl ?_
    exact hq
set_option maxRecDepth 100000 in
def bX2_real (G : xG) (fr lo : Nat) (x0 : Nat) (x1 : UInt64) (h : xH) (Q : Outcome → xH → Prop) : Prop := tg h x0 = 3 ∧ tg h (fR h x0 518) = 102 ∧ ((¬ (fI h x0 519) = (Int32.ofNat (ln h (fR h x0 518))) → bX2_real_55 G fr lo x0 x1 h Q) ∧ ((fI h x0 519) = (Int32.ofNat (ln h (fR h x0 518))) → ¬ (2 * (fI h x0 519)) < 0 ∧ Int32.toNatClampNeg (2 * (fI h x0 519)) ≤ 1000000 ∧ nx h + 1 ≤ xGN G ∧ us h + (Int32.toNatClampNeg (2 * (fI h x0 519))) ≤ xGU G ∧ (∀ (a8 : Nat) (h9 : xH), a8 = nx h + 1 → h9 = nA h 102 (Int32.toNatClampNeg (2 * (fI h x0 519))) → xfresh h a8 → lX2_real_24 G fr lo x0 x1 a8 0 h9 Q)))
set_option maxRecDepth 100000 in
theorem uX2_real {G : xG} {fr lo : Nat} {x0 : Nat} {x1 : UInt64} {h : xH} {Q : Outcome → xH → Prop} (hq : bX2_real G fr lo x0 x1 h Q) : xP G YX2_real fr lo 0 [(0, rv x0), (1, .double x1)] [] h Q := by
  unfold bX2_real at hq
  refine x_aload_n 0 dX2_real_0 rfl ?_
  obtain ⟨g1, hq⟩ := hq
  refine x_get (v := .int (fI h x0 519)) fdX2_60 dX2_real_1 g1 rfl ?_
  refine x_aload_n 0 dX2_real_4 rfl ?_
  refine x_get (v := rv (fR h x0 518)) fdX2_27 dX2_real_5 g1 rfl ?_
  obtain ⟨g2, hq⟩ := hq
  refine x_alen 2 g2 (by decide) dX2_real_8 ?_
  refine x_icmp_ne (tgt := 55) dX2_real_9 (by decide) (fun c3 => ?_) (fun c3 => ?_)
  · replace hq := hq.1 c3
    exact uX2_real_55 hq
  · replace hq := hq.2 c3
    refine x_iconst (v := 2) dX2_real_12 (by decide) ?_
    refine x_aload_n 0 dX2_real_13 rfl ?_
    refine x_get (v := .int (fI h x0 519)) fdX2_60 dX2_real_14 g1 rfl ?_
    refine x_imul dX2_real_17 ?_
    obtain ⟨g4, g5, hq⟩ := hq
    obtain ⟨g6, g7, hq⟩ := hq
    obtain ⟨a8, e10⟩ : ∃ y, y = nx h + 1 := ⟨_, rfl⟩
    obtain ⟨h9, e11⟩ : ∃ y, y = nA h 102 (Int32.toNatClampNeg (2 * (fI h x0 519))) := ⟨_, rfl⟩
    refine x_newa' 2 pk_double dX2_real_18 g4 g5 g6 g7 e10 e11 (fun f12 => ?_)
    replace hq := hq a8 h9 e10 e11 f12
    have t13 : tg h9 a8 = 102 := by rw [e11, e10]; exact tg_nA
    refine x_astore_n (lv' := [(3, rv a8), (0, rv x0), (1, .double x1)]) dX2_real_20 (by decide) rfl ?_
    refine x_iconst (v := 0) dX2_real_21 (by decide) ?_
    refine x_istore (lv' := [(4, .int 0), (3, rv a8), (0, rv x0), (1, .double x1)]) dX2_real_22 (by decide) (by first | rfl | (simp [rv_cat, Value.category]; done) | (simp [rv_cat, Value.category]; decide)) ?_
    refine xP.pick (lv' := [(0, rv x0), (1, .double x1), (3, rv a8), (4, .int 0)]) [2, 3, 1, 0] rfl ?_
    exact hq
theorem rX2_real {G : xG} {fr lo : Nat} {x0 : Nat} {x1 : UInt64} {h : xH} {Q : Outcome → xH → Prop} (hq : bX2_real G fr lo x0 x1 h Q) : xR G YX2_real fr lo [rv x0, .double x1] h Q := by
  show xP _ _ _ _ _ (lv_args 0 _) _ _ _
  rw [show lv_args 0 [rv x0, .double x1] = [(0, rv x0), (1, .double x1)] from (xla1 (rv_cat _) (xla2 rfl xla0))]
  exact uX2_real hq
set_option maxRecDepth 100000 in
theorem dX2_go_0 : decode cX2_go 0 = .ok (.aload_n 0, 1) := by decide +kernel
set_option maxRecDepth 100000 in
theorem dX2_go_1 : decode cX2_go 1 = .ok (.getfield 15, 3) := by decide +kernel
set_option maxRecDepth 100000 in
theorem dX2_go_4 : decode cX2_go 4 = .ok (.iload_n 1, 1) := by decide +kernel
set_option maxRecDepth 100000 in
theorem dX2_go_5 : decode cX2_go 5 = .ok (.iload_n 2, 1) := by decide +kernel
set_option maxRecDepth 100000 in
theorem dX2_go_6 : decode cX2_go 6 = .ok (.iastore, 1) := by decide +kernel
set_option maxRecDepth 100000 in
theorem dX2_go_7 : decode cX2_go 7 = .ok (.return_, 1) := by decide +kernel
set_option maxRecDepth 100000 in
def bX2_go (G : xG) (fr lo : Nat) (x0 : Nat) (x1 : Int32) (x2 : Int32) (h : xH) (Q : Outcome → xH → Prop) : Prop := tg h x0 = 3 ∧ tg h (fR h x0 513) = 100 ∧ vp_in x1 (ln h (fR h x0 513)) ∧ (∀ h4 : xH, h4 = tI h (fR h x0 513) (Int32.toNatClampNeg x1) x2 → Q (.returned none) h4)
set_option maxRecDepth 100000 in
theorem uX2_go {G : xG} {fr lo : Nat} {x0 : Nat} {x1 : Int32} {x2 : Int32} {h : xH} {Q : Outcome → xH → Prop} (hq : bX2_go G fr lo x0 x1 x2 h Q) : xP G YX2_go fr lo 0 [(0, rv x0), (1, .int x1), (2, .int x2)] [] h Q := by
  unfold bX2_go at hq
  refine x_aload_n 0 dX2_go_0 rfl ?_
  obtain ⟨g1, hq⟩ := hq
  refine x_get (v := rv (fR h x0 513)) fdX2_15 dX2_go_1 g1 rfl ?_
  refine x_iload_n 1 dX2_go_4 rfl ?_
  refine x_iload_n 2 dX2_go_5 rfl ?_
  obtain ⟨g2, hq⟩ := hq
  obtain ⟨i3, hq⟩ := hq
  obtain ⟨h4, e5⟩ : ∃ y, y = tI h (fR h x0 513) (Int32.toNatClampNeg x1) x2 := ⟨_, rfl⟩
  replace hq := hq h4 e5
  refine x_iast' g2 i3 dX2_go_6 e5 ?_
  exact x_vret rfl dX2_go_7 hq
theorem rX2_go {G : xG} {fr lo : Nat} {x0 : Nat} {x1 : Int32} {x2 : Int32} {h : xH} {Q : Outcome → xH → Prop} (hq : bX2_go G fr lo x0 x1 x2 h Q) : xR G YX2_go fr lo [rv x0, .int x1, .int x2] h Q := by
  show xP _ _ _ _ _ (lv_args 0 _) _ _ _
  rw [show lv_args 0 [rv x0, .int x1, .int x2] = [(0, rv x0), (1, .int x1), (2, .int x2)] from (xla1 (rv_cat _) (xla1 rfl (xla1 rfl xla0)))]
  exact uX2_go hq
set_option maxRecDepth 100000 in
theorem dX2_when_0 : decode cX2_when 0 = .ok (.aload_n 0, 1) := by decide +kernel
set_option maxRecDepth 100000 in
theorem dX2_when_1 : decode cX2_when 1 = .ok (.getfield 66, 3) := by decide +kernel
set_option maxRecDepth 100000 in
theorem dX2_when_4 : decode cX2_when 4 = .ok (.aload_n 0, 1) := by decide +kernel
set_option maxRecDepth 100000 in
theorem dX2_when_5 : decode cX2_when 5 = .ok (.getfield 47, 3) := by decide +kernel
set_option maxRecDepth 100000 in
theorem dX2_when_8 : decode cX2_when 8 = .ok (.arraylength, 1) := by decide +kernel
set_option maxRecDepth 100000 in
theorem dX2_when_9 : decode cX2_when 9 = .ok (.if_icmp .ne 25, 3) := by decide +kernel
set_option maxRecDepth 100000 in
theorem dX2_when_12 : decode cX2_when 12 = .ok (.aload_n 0, 1) := by decide +kernel
set_option maxRecDepth 100000 in
theorem dX2_when_13 : decode cX2_when 13 = .ok (.aload_n 0, 1) := by decide +kernel
set_option maxRecDepth 100000 in
theorem dX2_when_14 : decode cX2_when 14 = .ok (.getfield 47, 3) := by decide +kernel
set_option maxRecDepth 100000 in
theorem dX2_when_17 : decode cX2_when 17 = .ok (.invokestatic 75, 3) := by decide +kernel
set_option maxRecDepth 100000 in
theorem dX2_when_20 : decode cX2_when 20 = .ok (.putfield 47, 3) := by decide +kernel
set_option maxRecDepth 100000 in
theorem dX2_when_23 : decode cX2_when 23 = .ok (.aload_n 0, 1) := by decide +kernel
set_option maxRecDepth 100000 in
theorem dX2_when_24 : decode cX2_when 24 = .ok (.aload_n 0, 1) := by decide +kernel
set_option maxRecDepth 100000 in
theorem dX2_when_25 : decode cX2_when 25 = .ok (.getfield 50, 3) := by decide +kernel
set_option maxRecDepth 100000 in
theorem dX2_when_28 : decode cX2_when 28 = .ok (.invokestatic 75, 3) := by decide +kernel
set_option maxRecDepth 100000 in
theorem dX2_when_31 : decode cX2_when 31 = .ok (.putfield 50, 3) := by decide +kernel
set_option maxRecDepth 100000 in
theorem dX2_when_34 : decode cX2_when 34 = .ok (.aload_n 0, 1) := by decide +kernel
set_option maxRecDepth 100000 in
theorem dX2_when_35 : decode cX2_when 35 = .ok (.getfield 47, 3) := by decide +kernel
set_option maxRecDepth 100000 in
theorem dX2_when_38 : decode cX2_when 38 = .ok (.aload_n 0, 1) := by decide +kernel
set_option maxRecDepth 100000 in
theorem dX2_when_39 : decode cX2_when 39 = .ok (.getfield 66, 3) := by decide +kernel
set_option maxRecDepth 100000 in
theorem dX2_when_42 : decode cX2_when 42 = .ok (.iload_n 1, 1) := by decide +kernel
set_option maxRecDepth 100000 in
theorem dX2_when_43 : decode cX2_when 43 = .ok (.iastore, 1) := by decide +kernel
set_option maxRecDepth 100000 in
theorem dX2_when_44 : decode cX2_when 44 = .ok (.aload_n 0, 1) := by decide +kernel
set_option maxRecDepth 100000 in
theorem dX2_when_45 : decode cX2_when 45 = .ok (.getfield 50, 3) := by decide +kernel
set_option maxRecDepth 100000 in
theorem dX2_when_48 : decode cX2_when 48 = .ok (.aload_n 0, 1) := by decide +kernel
set_option maxRecDepth 100000 in
theorem dX2_when_49 : decode cX2_when 49 = .ok (.getfield 66, 3) := by decide +kernel
set_option maxRecDepth 100000 in
theorem dX2_when_52 : decode cX2_when 52 = .ok (.iload_n 2, 1) := by decide +kernel
set_option maxRecDepth 100000 in
theorem dX2_when_53 : decode cX2_when 53 = .ok (.iastore, 1) := by decide +kernel
set_option maxRecDepth 100000 in
theorem dX2_when_54 : decode cX2_when 54 = .ok (.aload_n 0, 1) := by decide +kernel
set_option maxRecDepth 100000 in
theorem dX2_when_55 : decode cX2_when 55 = .ok (.dup, 1) := by decide +kernel
set_option maxRecDepth 100000 in
theorem dX2_when_56 : decode cX2_when 56 = .ok (.getfield 66, 3) := by decide +kernel
set_option maxRecDepth 100000 in
theorem dX2_when_59 : decode cX2_when 59 = .ok (.iconst 1, 1) := by decide +kernel
set_option maxRecDepth 100000 in
theorem dX2_when_60 : decode cX2_when 60 = .ok (.iadd, 1) := by decide +kernel
set_option maxRecDepth 100000 in
theorem dX2_when_61 : decode cX2_when 61 = .ok (.putfield 66, 3) := by decide +kernel
set_option maxRecDepth 100000 in
theorem dX2_when_64 : decode cX2_when 64 = .ok (.return_, 1) := by decide +kernel
set_option maxRecDepth 100000 in
def bX2_when_34 (G : xG) (fr lo : Nat) (x0 : Nat) (x1 : Int32) (x2 : Int32) (h : xH) (Q : Outcome → xH → Prop) : Prop := tg h x0 = 3 ∧ tg h (fR h x0 524) = 100 ∧ vp_in (fI h x0 526) (ln h (fR h x0 524)) ∧ (∀ h4 : xH, h4 = tI h (fR h x0 524) (Int32.toNatClampNeg (fI h x0 526)) x1 → tg h4 (fR h4 x0 525) = 100 ∧ vp_in (fI h4 x0 526) (ln h4 (fR h4 x0 525)) ∧ (∀ h9 : xH, h9 = tI h4 (fR h4 x0 525) (Int32.toNatClampNeg (fI h4 x0 526)) x2 → (∀ h12 : xH, h12 = sI h9 x0 526 ((fI h9 x0 526) + 1) → Q (.returned none) h12)))
set_option maxRecDepth 100000 in
theorem uX2_when_34 {G : xG} {fr lo : Nat} {x0 : Nat} {x1 : Int32} {x2 : Int32} {h : xH} {Q : Outcome → xH → Prop} (hq : bX2_when_34 G fr lo x0 x1 x2 h Q) : xP G YX2_when fr lo 34 [(0, rv x0), (1, .int x1), (2, .int x2)] [] h Q := by
  unfold bX2_when_34 at hq
  refine x_aload_n 0 dX2_when_34 rfl ?_
  obtain ⟨g1, hq⟩ := hq
  refine x_get (v := rv (fR h x0 524)) fdX2_47 dX2_when_35 g1 rfl ?_
  refine x_aload_n 0 dX2_when_38 rfl ?_
  refine x_get (v := .int (fI h x0 526)) fdX2_66 dX2_when_39 g1 rfl ?_
  refine x_iload_n 1 dX2_when_42 rfl ?_
  obtain ⟨g2, hq⟩ := hq
  obtain ⟨i3, hq⟩ := hq
  obtain ⟨h4, e5⟩ : ∃ y, y = tI h (fR h x0 524) (Int32.toNatClampNeg (fI h x0 526)) x1 := ⟨_, rfl⟩
  replace hq := hq h4 e5
  refine x_iast' g2 i3 dX2_when_43 e5 ?_
  refine x_aload_n 0 dX2_when_44 rfl ?_
  have t6 : tg h4 x0 = 3 := by rw [e5]; exact g1
  refine x_get (v := rv (fR h4 x0 525)) fdX2_50 dX2_when_45 t6 rfl ?_
  refine x_aload_n 0 dX2_when_48 rfl ?_
  refine x_get (v := .int (fI h4 x0 526)) fdX2_66 dX2_when_49 t6 rfl ?_
  refine x_iload_n 2 dX2_when_52 rfl ?_
  obtain ⟨g7, hq⟩ := hq
  obtain ⟨i8, hq⟩ := hq
  obtain ⟨h9, e10⟩ : ∃ y, y = tI h4 (fR h4 x0 525) (Int32.toNatClampNeg (fI h4 x0 526)) x2 := ⟨_, rfl⟩
  replace hq := hq h9 e10
  refine x_iast' g7 i8 dX2_when_53 e10 ?_
  refine x_aload_n 0 dX2_when_54 rfl ?_
  refine x_dup dX2_when_55 (rv_cat _) ?_
  have t11 : tg h9 x0 = 3 := by rw [e10]; exact t6
  refine x_get (v := .int (fI h9 x0 526)) fdX2_66 dX2_when_56 t11 rfl ?_
  refine x_iconst (v := 1) dX2_when_59 (by decide) ?_
  refine x_iadd dX2_when_60 ?_
  obtain ⟨h12, e13⟩ : ∃ y, y = sI h9 x0 526 ((fI h9 x0 526) + 1) := ⟨_, rfl⟩
  replace hq := hq h12 e13
  refine x_putI fdX2_66 xty_I1 dX2_when_61 t11 (Or.inl (by rw [t11]; rfl)) xnI rfl e13 ?_
  exact x_vret rfl dX2_when_64 hq
set_option maxRecDepth 100000 in
def bX2_when (G : xG) (fr lo : Nat) (x0 : Nat) (x1 : Int32) (x2 : Int32) (h : xH) (Q : Outcome → xH → Prop) : Prop := tg h x0 = 3 ∧ tg h (fR h x0 524) = 100 ∧ ((¬ (fI h x0 526) = (Int32.ofNat (ln h (fR h x0 524))) → bX2_when_34 G fr lo x0 x1 x2 h Q) ∧ ((fI h x0 526) = (Int32.ofNat (ln h (fR h x0 524))) → 1 ≤ fr ∧ 15 ≤ lo ∧ xRr G YX2_longer (fr - 1) (lo - 15) [rv (fR h x0 524)] h (fun x7 h6 => xext h h6 → (∀ h10 : xH, h10 = sR h6 x0 524 x7 → 1 ≤ fr ∧ 15 ≤ lo ∧ xRr G YX2_longer (fr - 1) (lo - 15) [rv (fR h10 x0 525)] h10 (fun x16 h15 => xext h10 h15 → (∀ h19 : xH, h19 = sR h15 x0 525 x16 → bX2_when_34 G fr lo x0 x1 x2 h19 Q)) (fun r h2 => Q (.threw r) h2))) (fun r h2 => Q (.threw r) h2)))
set_option maxRecDepth 100000 in
theorem uX2_when {G : xG} {fr lo : Nat} {x0 : Nat} {x1 : Int32} {x2 : Int32} {h : xH} {Q : Outcome → xH → Prop} (hq : bX2_when G fr lo x0 x1 x2 h Q) : xP G YX2_when fr lo 0 [(0, rv x0), (1, .int x1), (2, .int x2)] [] h Q := by
  unfold bX2_when at hq
  refine x_aload_n 0 dX2_when_0 rfl ?_
  obtain ⟨g1, hq⟩ := hq
  refine x_get (v := .int (fI h x0 526)) fdX2_66 dX2_when_1 g1 rfl ?_
  refine x_aload_n 0 dX2_when_4 rfl ?_
  refine x_get (v := rv (fR h x0 524)) fdX2_47 dX2_when_5 g1 rfl ?_
  obtain ⟨g2, hq⟩ := hq
  refine x_alen 0 g2 (by decide) dX2_when_8 ?_
  refine x_icmp_ne (tgt := 34) dX2_when_9 (by decide) (fun c3 => ?_) (fun c3 => ?_)
  · replace hq := hq.1 c3
    exact uX2_when_34 hq
  · replace hq := hq.2 c3
    refine x_aload_n 0 dX2_when_12 rfl ?_
    refine x_aload_n 0 dX2_when_13 rfl ?_
    refine x_get (v := rv (fR h x0 524)) fdX2_47 dX2_when_14 g1 rfl ?_
    obtain ⟨g4, g5, hq⟩ := hq
    refine x_callS (Yc := YX2_longer) (as := [rv (fR h x0 524)]) (st := [rv x0]) q2202 msX2_longer rfl dX2_when_17 (xle (xal1 (rv_cat _) xal0) (by decide)) (xfr g4) (xlo (xsw1 (rv_cat _) xsw0) (by decide) g5) (xKr hq (fun x7 h6 hq e8 => ?_) (fun _ _ q _ => q))
    replace hq := hq e8
    have t9 : tg h6 x0 = 3 := e8.tg g1 (by decide)
    obtain ⟨h10, e11⟩ : ∃ y, y = sR h6 x0 524 x7 := ⟨_, rfl⟩
    replace hq := hq h10 e11
    refine x_putR fdX2_47 xty_A dX2_when_20 t9 (Or.inl (by rw [t9]; rfl)) rfl e11 ?_
    refine x_aload_n 0 dX2_when_23 rfl ?_
    refine x_aload_n 0 dX2_when_24 rfl ?_
    have t12 : tg h10 x0 = 3 := by rw [e11]; exact t9
    refine x_get (v := rv (fR h10 x0 525)) fdX2_50 dX2_when_25 t12 rfl ?_
    obtain ⟨g13, g14, hq⟩ := hq
    refine x_callS (Yc := YX2_longer) (as := [rv (fR h10 x0 525)]) (st := [rv x0]) q2202 msX2_longer rfl dX2_when_28 (xle (xal1 (rv_cat _) xal0) (by decide)) (xfr g13) (xlo (xsw1 (rv_cat _) xsw0) (by decide) g14) (xKr hq (fun x16 h15 hq e17 => ?_) (fun _ _ q _ => q))
    replace hq := hq e17
    have t18 : tg h15 x0 = 3 := e17.tg t12 (by decide)
    obtain ⟨h19, e20⟩ : ∃ y, y = sR h15 x0 525 x16 := ⟨_, rfl⟩
    replace hq := hq h19 e20
    refine x_putR fdX2_50 xty_A dX2_when_31 t18 (Or.inl (by rw [t18]; rfl)) rfl e20 ?_
    exact uX2_when_34 hq
theorem rX2_when {G : xG} {fr lo : Nat} {x0 : Nat} {x1 : Int32} {x2 : Int32} {h : xH} {Q : Outcome → xH → Prop} (hq : bX2_when G fr lo x0 x1 x2 h Q) : xR G YX2_when fr lo [rv x0, .int x1, .int x2] h Q := by
  show xP _ _ _ _ _ (lv_args 0 _) _ _ _
  rw [show lv_args 0 [rv x0, .int x1, .int x2] = [(0, rv x0), (1, .int x1), (2, .int x2)] from (xla1 (rv_cat _) (xla1 rfl (xla1 rfl xla0)))]
  exact uX2_when hq
