/-! PascalHouse$FileRows, walked (1) -/
set_option maxRecDepth 100000 in
theorem dX11_init_0 : decode cX11_init 0 = .ok (.aload_n 0, 1) := by decide +kernel
set_option maxRecDepth 100000 in
theorem dX11_init_1 : decode cX11_init 1 = .ok (.invokespecial 3, 3) := by decide +kernel
set_option maxRecDepth 100000 in
theorem dX11_init_4 : decode cX11_init 4 = .ok (.aload_n 0, 1) := by decide +kernel
set_option maxRecDepth 100000 in
theorem dX11_init_5 : decode cX11_init 5 = .ok (.sipush 20000, 3) := by decide +kernel
set_option maxRecDepth 100000 in
theorem dX11_init_8 : decode cX11_init 8 = .ok (.newarray .int, 2) := by decide +kernel
set_option maxRecDepth 100000 in
theorem dX11_init_10 : decode cX11_init 10 = .ok (.putfield 9, 3) := by decide +kernel
set_option maxRecDepth 100000 in
theorem dX11_init_13 : decode cX11_init 13 = .ok (.aload_n 0, 1) := by decide +kernel
set_option maxRecDepth 100000 in
theorem dX11_init_14 : decode cX11_init 14 = .ok (.sipush 20000, 3) := by decide +kernel
set_option maxRecDepth 100000 in
theorem dX11_init_17 : decode cX11_init 17 = .ok (.newarray .int, 2) := by decide +kernel
set_option maxRecDepth 100000 in
theorem dX11_init_19 : decode cX11_init 19 = .ok (.putfield 15, 3) := by decide +kernel
set_option maxRecDepth 100000 in
theorem dX11_init_22 : decode cX11_init 22 = .ok (.aload_n 0, 1) := by decide +kernel
set_option maxRecDepth 100000 in
theorem dX11_init_23 : decode cX11_init 23 = .ok (.sipush 20000, 3) := by decide +kernel
set_option maxRecDepth 100000 in
theorem dX11_init_26 : decode cX11_init 26 = .ok (.newarray .int, 2) := by decide +kernel
set_option maxRecDepth 100000 in
theorem dX11_init_28 : decode cX11_init 28 = .ok (.putfield 18, 3) := by decide +kernel
set_option maxRecDepth 100000 in
theorem dX11_init_31 : decode cX11_init 31 = .ok (.aload_n 0, 1) := by decide +kernel
set_option maxRecDepth 100000 in
theorem dX11_init_32 : decode cX11_init 32 = .ok (.sipush 20000, 3) := by decide +kernel
set_option maxRecDepth 100000 in
theorem dX11_init_35 : decode cX11_init 35 = .ok (.newarray .int, 2) := by decide +kernel
set_option maxRecDepth 100000 in
theorem dX11_init_37 : decode cX11_init 37 = .ok (.putfield 21, 3) := by decide +kernel
set_option maxRecDepth 100000 in
theorem dX11_init_40 : decode cX11_init 40 = .ok (.aload_n 0, 1) := by decide +kernel
set_option maxRecDepth 100000 in
theorem dX11_init_41 : decode cX11_init 41 = .ok (.sipush 20000, 3) := by decide +kernel
set_option maxRecDepth 100000 in
theorem dX11_init_44 : decode cX11_init 44 = .ok (.newarray .int, 2) := by decide +kernel
set_option maxRecDepth 100000 in
theorem dX11_init_46 : decode cX11_init 46 = .ok (.putfield 24, 3) := by decide +kernel
set_option maxRecDepth 100000 in
theorem dX11_init_49 : decode cX11_init 49 = .ok (.aload_n 0, 1) := by decide +kernel
set_option maxRecDepth 100000 in
theorem dX11_init_50 : decode cX11_init 50 = .ok (.sipush 20000, 3) := by decide +kernel
set_option maxRecDepth 100000 in
theorem dX11_init_53 : decode cX11_init 53 = .ok (.newarray .int, 2) := by decide +kernel
set_option maxRecDepth 100000 in
theorem dX11_init_55 : decode cX11_init 55 = .ok (.putfield 27, 3) := by decide +kernel
set_option maxRecDepth 100000 in
theorem dX11_init_58 : decode cX11_init 58 = .ok (.aload_n 0, 1) := by decide +kernel
set_option maxRecDepth 100000 in
theorem dX11_init_59 : decode cX11_init 59 = .ok (.sipush 20000, 3) := by decide +kernel
set_option maxRecDepth 100000 in
theorem dX11_init_62 : decode cX11_init 62 = .ok (.newarray .boolean, 2) := by decide +kernel
set_option maxRecDepth 100000 in
theorem dX11_init_64 : decode cX11_init 64 = .ok (.putfield 30, 3) := by decide +kernel
set_option maxRecDepth 100000 in
theorem dX11_init_67 : decode cX11_init 67 = .ok (.aload_n 0, 1) := by decide +kernel
set_option maxRecDepth 100000 in
theorem dX11_init_68 : decode cX11_init 68 = .ok (.sipush 20000, 3) := by decide +kernel
set_option maxRecDepth 100000 in
theorem dX11_init_71 : decode cX11_init 71 = .ok (.newarray .boolean, 2) := by decide +kernel
set_option maxRecDepth 100000 in
theorem dX11_init_73 : decode cX11_init 73 = .ok (.putfield 34, 3) := by decide +kernel
set_option maxRecDepth 100000 in
theorem dX11_init_76 : decode cX11_init 76 = .ok (.aload_n 0, 1) := by decide +kernel
set_option maxRecDepth 100000 in
theorem dX11_init_77 : decode cX11_init 77 = .ok (.ldc 37, 2) := by decide +kernel
set_option maxRecDepth 100000 in
theorem dX11_init_79 : decode cX11_init 79 = .ok (.newarray .int, 2) := by decide +kernel
set_option maxRecDepth 100000 in
theorem dX11_init_81 : decode cX11_init 81 = .ok (.putfield 38, 3) := by decide +kernel
set_option maxRecDepth 100000 in
theorem dX11_init_84 : decode cX11_init 84 = .ok (.aload_n 0, 1) := by decide +kernel
set_option maxRecDepth 100000 in
theorem dX11_init_85 : decode cX11_init 85 = .ok (.ldc 37, 2) := by decide +kernel
set_option maxRecDepth 100000 in
theorem dX11_init_87 : decode cX11_init 87 = .ok (.newarray .long, 2) := by decide +kernel
set_option maxRecDepth 100000 in
theorem dX11_init_89 : decode cX11_init 89 = .ok (.putfield 41, 3) := by decide +kernel
set_option maxRecDepth 100000 in
theorem dX11_init_92 : decode cX11_init 92 = .ok (.aload_n 0, 1) := by decide +kernel
set_option maxRecDepth 100000 in
theorem dX11_init_93 : decode cX11_init 93 = .ok (.ldc 37, 2) := by decide +kernel
set_option maxRecDepth 100000 in
theorem dX11_init_95 : decode cX11_init 95 = .ok (.newarray .long, 2) := by decide +kernel
set_option maxRecDepth 100000 in
theorem dX11_init_97 : decode cX11_init 97 = .ok (.putfield 45, 3) := by decide +kernel
set_option maxRecDepth 100000 in
theorem dX11_init_100 : decode cX11_init 100 = .ok (.aload_n 0, 1) := by decide +kernel
set_option maxRecDepth 100000 in
theorem dX11_init_101 : decode cX11_init 101 = .ok (.ldc 37, 2) := by decide +kernel
set_option maxRecDepth 100000 in
theorem dX11_init_103 : decode cX11_init 103 = .ok (.newarray .double, 2) := by decide +kernel
set_option maxRecDepth 100000 in
theorem dX11_init_105 : decode cX11_init 105 = .ok (.putfield 48, 3) := by decide +kernel
set_option maxRecDepth 100000 in
theorem dX11_init_108 : decode cX11_init 108 = .ok (.aload_n 0, 1) := by decide +kernel
set_option maxRecDepth 100000 in
theorem dX11_init_109 : decode cX11_init 109 = .ok (.ldc 37, 2) := by decide +kernel
set_option maxRecDepth 100000 in
theorem dX11_init_111 : decode cX11_init 111 = .ok (.newarray .boolean, 2) := by decide +kernel
set_option maxRecDepth 100000 in
theorem dX11_init_113 : decode cX11_init 113 = .ok (.putfield 52, 3) := by decide +kernel
set_option maxRecDepth 100000 in
theorem dX11_init_116 : decode cX11_init 116 = .ok (.aload_n 0, 1) := by decide +kernel
set_option maxRecDepth 100000 in
theorem dX11_init_117 : decode cX11_init 117 = .ok (.aload_n 1, 1) := by decide +kernel
set_option maxRecDepth 100000 in
theorem dX11_init_118 : decode cX11_init 118 = .ok (.putfield 55, 3) := by decide +kernel
set_option maxRecDepth 100000 in
theorem dX11_init_121 : decode cX11_init 121 = .ok (.return_, 1) := by decide +kernel
set_option maxRecDepth 100000 in
def bX11_init (G : xG) (fr lo : Nat) (x0 : Nat) (x1 : Nat) (h : xH) (Q : Outcome → xH → Prop) : Prop := tg h x0 = 12 ∧ 1 ≤ fr ∧ 12 ≤ lo ∧ nx h + 1 ≤ xGN G ∧ us h + (Int32.toNatClampNeg 20000) ≤ xGU G ∧ (∀ (a6 : Nat) (h7 : xH), a6 = nx h + 1 → h7 = nA h 100 (Int32.toNatClampNeg 20000) → xfresh h a6 → (∀ h13 : xH, h13 = sR h7 x0 2817 a6 → nx h13 + 1 ≤ xGN G ∧ us h13 + (Int32.toNatClampNeg 20000) ≤ xGU G ∧ (∀ (a17 : Nat) (h18 : xH), a17 = nx h13 + 1 → h18 = nA h13 100 (Int32.toNatClampNeg 20000) → xfresh h13 a17 → (∀ h25 : xH, h25 = sR h18 x0 2818 a17 → nx h25 + 1 ≤ xGN G ∧ us h25 + (Int32.toNatClampNeg 20000) ≤ xGU G ∧ (∀ (a29 : Nat) (h30 : xH), a29 = nx h25 + 1 → h30 = nA h25 100 (Int32.toNatClampNeg 20000) → xfresh h25 a29 → (∀ h37 : xH, h37 = sR h30 x0 2819 a29 → nx h37 + 1 ≤ xGN G ∧ us h37 + (Int32.toNatClampNeg 20000) ≤ xGU G ∧ (∀ (a41 : Nat) (h42 : xH), a41 = nx h37 + 1 → h42 = nA h37 100 (Int32.toNatClampNeg 20000) → xfresh h37 a41 → (∀ h49 : xH, h49 = sR h42 x0 2820 a41 → nx h49 + 1 ≤ xGN G ∧ us h49 + (Int32.toNatClampNeg 20000) ≤ xGU G ∧ (∀ (a53 : Nat) (h54 : xH), a53 = nx h49 + 1 → h54 = nA h49 100 (Int32.toNatClampNeg 20000) → xfresh h49 a53 → (∀ h61 : xH, h61 = sR h54 x0 2821 a53 → nx h61 + 1 ≤ xGN G ∧ us h61 + (Int32.toNatClampNeg 20000) ≤ xGU G ∧ (∀ (a65 : Nat) (h66 : xH), a65 = nx h61 + 1 → h66 = nA h61 100 (Int32.toNatClampNeg 20000) → xfresh h61 a65 → (∀ h73 : xH, h73 = sR h66 x0 2822 a65 → nx h73 + 1 ≤ xGN G ∧ us h73 + (Int32.toNatClampNeg 20000) ≤ xGU G ∧ (∀ (a77 : Nat) (h78 : xH), a77 = nx h73 + 1 → h78 = nA h73 104 (Int32.toNatClampNeg 20000) → xfresh h73 a77 → (∀ h85 : xH, h85 = sR h78 x0 2823 a77 → nx h85 + 1 ≤ xGN G ∧ us h85 + (Int32.toNatClampNeg 20000) ≤ xGU G ∧ (∀ (a89 : Nat) (h90 : xH), a89 = nx h85 + 1 → h90 = nA h85 104 (Int32.toNatClampNeg 20000) → xfresh h85 a89 → (∀ h97 : xH, h97 = sR h90 x0 2824 a89 → nx h97 + 1 ≤ xGN G ∧ us h97 + (Int32.toNatClampNeg 45000) ≤ xGU G ∧ (∀ (a101 : Nat) (h102 : xH), a101 = nx h97 + 1 → h102 = nA h97 100 (Int32.toNatClampNeg 45000) → xfresh h97 a101 → (∀ h109 : xH, h109 = sR h102 x0 2825 a101 → nx h109 + 1 ≤ xGN G ∧ us h109 + (Int32.toNatClampNeg 45000) ≤ xGU G ∧ (∀ (a113 : Nat) (h114 : xH), a113 = nx h109 + 1 → h114 = nA h109 101 (Int32.toNatClampNeg 45000) → xfresh h109 a113 → (∀ h121 : xH, h121 = sR h114 x0 2826 a113 → nx h121 + 1 ≤ xGN G ∧ us h121 + (Int32.toNatClampNeg 45000) ≤ xGU G ∧ (∀ (a125 : Nat) (h126 : xH), a125 = nx h121 + 1 → h126 = nA h121 101 (Int32.toNatClampNeg 45000) → xfresh h121 a125 → (∀ h133 : xH, h133 = sR h126 x0 2827 a125 → nx h133 + 1 ≤ xGN G ∧ us h133 + (Int32.toNatClampNeg 45000) ≤ xGU G ∧ (∀ (a137 : Nat) (h138 : xH), a137 = nx h133 + 1 → h138 = nA h133 102 (Int32.toNatClampNeg 45000) → xfresh h133 a137 → (∀ h145 : xH, h145 = sR h138 x0 2828 a137 → nx h145 + 1 ≤ xGN G ∧ us h145 + (Int32.toNatClampNeg 45000) ≤ xGU G ∧ (∀ (a149 : Nat) (h150 : xH), a149 = nx h145 + 1 → h150 = nA h145 104 (Int32.toNatClampNeg 45000) → xfresh h145 a149 → (∀ h157 : xH, h157 = sR h150 x0 2829 a149 → (∀ h160 : xH, h160 = sR h157 x0 2816 x1 → Q (.returned none) h160)))))))))))))))))))))))))))
set_option maxRecDepth 100000 in
theorem uX11_init {G : xG} {fr lo : Nat} {x0 : Nat} {x1 : Nat} {h : xH} {Q : Outcome → xH → Prop} (hq : bX11_init G fr lo x0 x1 h Q) : xP G YX11_init fr lo 0 [(0, rv x0), (1, rv x1)] [] h Q := by
  unfold bX11_init at hq
  refine x_aload_n 0 dX11_init_0 rfl ?_
  obtain ⟨g1, hq⟩ := hq
  obtain ⟨g2, g3, hq⟩ := hq
  refine x_objInit (by rw [g1]; decide) q1237 q438 q439 dX11_init_1 g2 (by simp only [List.map_cons, List.map_nil, List.sum_cons, List.sum_nil, rv_cat, Value.category]; omega) ?_
  refine x_aload_n 0 dX11_init_4 rfl ?_
  refine x_sipush (v := 20000) dX11_init_5 (by decide) ?_
  obtain ⟨g4, g5, hq⟩ := hq
  obtain ⟨a6, e8⟩ : ∃ y, y = nx h + 1 := ⟨_, rfl⟩
  obtain ⟨h7, e9⟩ : ∃ y, y = nA h 100 (Int32.toNatClampNeg 20000) := ⟨_, rfl⟩
  refine x_newa' 0 pk_int dX11_init_8 (by decide) (by decide) g4 g5 e8 e9 (fun f10 => ?_)
  replace hq := hq a6 h7 e8 e9 f10
  have t11 : tg h7 a6 = 100 := by rw [e9, e8]; exact tg_nA
  have t12 : tg h7 x0 = 12 := by rw [e9]; exact tg_nA_ne e8 f10 g1 (by decide)
  obtain ⟨h13, e14⟩ : ∃ y, y = sR h7 x0 2817 a6 := ⟨_, rfl⟩
  replace hq := hq h13 e14
  refine x_putFR fdX11_9 owX11_init_1 xty_A dX11_init_10 t12 (Or.inl (by rw [t12]; rfl)) rfl e14 ?_
  refine x_aload_n 0 dX11_init_13 rfl ?_
  refine x_sipush (v := 20000) dX11_init_14 (by decide) ?_
  obtain ⟨g15, g16, hq⟩ := hq
  obtain ⟨a17, e19⟩ : ∃ y, y = nx h13 + 1 := ⟨_, rfl⟩
  obtain ⟨h18, e20⟩ : ∃ y, y = nA h13 100 (Int32.toNatClampNeg 20000) := ⟨_, rfl⟩
  refine x_newa' 0 pk_int dX11_init_17 (by decide) (by decide) g15 g16 e19 e20 (fun f21 => ?_)
  replace hq := hq a17 h18 e19 e20 f21
  have t22 : tg h18 a17 = 100 := by rw [e20, e19]; exact tg_nA
  have t23 : tg h13 x0 = 12 := by rw [e14]; exact t12
  have t24 : tg h18 x0 = 12 := by rw [e20]; exact tg_nA_ne e19 f21 t23 (by decide)
  obtain ⟨h25, e26⟩ : ∃ y, y = sR h18 x0 2818 a17 := ⟨_, rfl⟩
  replace hq := hq h25 e26
  refine x_putFR fdX11_15 owX11_init_2 xty_A dX11_init_19 t24 (Or.inl (by rw [t24]; rfl)) rfl e26 ?_
  refine x_aload_n 0 dX11_init_22 rfl ?_
  refine x_sipush (v := 20000) dX11_init_23 (by decide) ?_
  obtain ⟨g27, g28, hq⟩ := hq
  obtain ⟨a29, e31⟩ : ∃ y, y = nx h25 + 1 := ⟨_, rfl⟩
  obtain ⟨h30, e32⟩ : ∃ y, y = nA h25 100 (Int32.toNatClampNeg 20000) := ⟨_, rfl⟩
  refine x_newa' 0 pk_int dX11_init_26 (by decide) (by decide) g27 g28 e31 e32 (fun f33 => ?_)
  replace hq := hq a29 h30 e31 e32 f33
  have t34 : tg h30 a29 = 100 := by rw [e32, e31]; exact tg_nA
  have t35 : tg h25 x0 = 12 := by rw [e26]; exact t24
  have t36 : tg h30 x0 = 12 := by rw [e32]; exact tg_nA_ne e31 f33 t35 (by decide)
  obtain ⟨h37, e38⟩ : ∃ y, y = sR h30 x0 2819 a29 := ⟨_, rfl⟩
  replace hq := hq h37 e38
  refine x_putFR fdX11_18 owX11_init_3 xty_A dX11_init_28 t36 (Or.inl (by rw [t36]; rfl)) rfl e38 ?_
  refine x_aload_n 0 dX11_init_31 rfl ?_
  refine x_sipush (v := 20000) dX11_init_32 (by decide) ?_
  obtain ⟨g39, g40, hq⟩ := hq
  obtain ⟨a41, e43⟩ : ∃ y, y = nx h37 + 1 := ⟨_, rfl⟩
  obtain ⟨h42, e44⟩ : ∃ y, y = nA h37 100 (Int32.toNatClampNeg 20000) := ⟨_, rfl⟩
  refine x_newa' 0 pk_int dX11_init_35 (by decide) (by decide) g39 g40 e43 e44 (fun f45 => ?_)
  replace hq := hq a41 h42 e43 e44 f45
  have t46 : tg h42 a41 = 100 := by rw [e44, e43]; exact tg_nA
  have t47 : tg h37 x0 = 12 := by rw [e38]; exact t36
  have t48 : tg h42 x0 = 12 := by rw [e44]; exact tg_nA_ne e43 f45 t47 (by decide)
  obtain ⟨h49, e50⟩ : ∃ y, y = sR h42 x0 2820 a41 := ⟨_, rfl⟩
  replace hq := hq h49 e50
  refine x_putFR fdX11_21 owX11_init_4 xty_A dX11_init_37 t48 (Or.inl (by rw [t48]; rfl)) rfl e50 ?_
  refine x_aload_n 0 dX11_init_40 rfl ?_
  refine x_sipush (v := 20000) dX11_init_41 (by decide) ?_
  obtain ⟨g51, g52, hq⟩ := hq
  obtain ⟨a53, e55⟩ : ∃ y, y = nx h49 + 1 := ⟨_, rfl⟩
  obtain ⟨h54, e56⟩ : ∃ y, y = nA h49 100 (Int32.toNatClampNeg 20000) := ⟨_, rfl⟩
  refine x_newa' 0 pk_int dX11_init_44 (by decide) (by decide) g51 g52 e55 e56 (fun f57 => ?_)
  replace hq := hq a53 h54 e55 e56 f57
  have t58 : tg h54 a53 = 100 := by rw [e56, e55]; exact tg_nA
  have t59 : tg h49 x0 = 12 := by rw [e50]; exact t48
  have t60 : tg h54 x0 = 12 := by rw [e56]; exact tg_nA_ne e55 f57 t59 (by decide)
  obtain ⟨h61, e62⟩ : ∃ y, y = sR h54 x0 2821 a53 := ⟨_, rfl⟩
  replace hq := hq h61 e62
  refine x_putFR fdX11_24 owX11_init_5 xty_A dX11_init_46 t60 (Or.inl (by rw [t60]; rfl)) rfl e62 ?_
  refine x_aload_n 0 dX11_init_49 rfl ?_
  refine x_sipush (v := 20000) dX11_init_50 (by decide) ?_
  obtain ⟨g63, g64, hq⟩ := hq
  obtain ⟨a65, e67⟩ : ∃ y, y = nx h61 + 1 := ⟨_, rfl⟩
  obtain ⟨h66, e68⟩ : ∃ y, y = nA h61 100 (Int32.toNatClampNeg 20000) := ⟨_, rfl⟩
  refine x_newa' 0 pk_int dX11_init_53 (by decide) (by decide) g63 g64 e67 e68 (fun f69 => ?_)
  replace hq := hq a65 h66 e67 e68 f69
  have t70 : tg h66 a65 = 100 := by rw [e68, e67]; exact tg_nA
  have t71 : tg h61 x0 = 12 := by rw [e62]; exact t60
  have t72 : tg h66 x0 = 12 := by rw [e68]; exact tg_nA_ne e67 f69 t71 (by decide)
  obtain ⟨h73, e74⟩ : ∃ y, y = sR h66 x0 2822 a65 := ⟨_, rfl⟩
  replace hq := hq h73 e74
  refine x_putFR fdX11_27 owX11_init_6 xty_A dX11_init_55 t72 (Or.inl (by rw [t72]; rfl)) rfl e74 ?_
  refine x_aload_n 0 dX11_init_58 rfl ?_
  refine x_sipush (v := 20000) dX11_init_59 (by decide) ?_
  obtain ⟨g75, g76, hq⟩ := hq
  obtain ⟨a77, e79⟩ : ∃ y, y = nx h73 + 1 := ⟨_, rfl⟩
  obtain ⟨h78, e80⟩ : ∃ y, y = nA h73 104 (Int32.toNatClampNeg 20000) := ⟨_, rfl⟩
  refine x_newa' 4 pk_boolean dX11_init_62 (by decide) (by decide) g75 g76 e79 e80 (fun f81 => ?_)
  replace hq := hq a77 h78 e79 e80 f81
  have t82 : tg h78 a77 = 104 := by rw [e80, e79]; exact tg_nA
  have t83 : tg h73 x0 = 12 := by rw [e74]; exact t72
  have t84 : tg h78 x0 = 12 := by rw [e80]; exact tg_nA_ne e79 f81 t83 (by decide)
  obtain ⟨h85, e86⟩ : ∃ y, y = sR h78 x0 2823 a77 := ⟨_, rfl⟩
  replace hq := hq h85 e86
  refine x_putFR fdX11_30 owX11_init_7 xty_A dX11_init_64 t84 (Or.inl (by rw [t84]; rfl)) rfl e86 ?_
  refine x_aload_n 0 dX11_init_67 rfl ?_
  refine x_sipush (v := 20000) dX11_init_68 (by decide) ?_
  obtain ⟨g87, g88, hq⟩ := hq
  obtain ⟨a89, e91⟩ : ∃ y, y = nx h85 + 1 := ⟨_, rfl⟩
  obtain ⟨h90, e92⟩ : ∃ y, y = nA h85 104 (Int32.toNatClampNeg 20000) := ⟨_, rfl⟩
  refine x_newa' 4 pk_boolean dX11_init_71 (by decide) (by decide) g87 g88 e91 e92 (fun f93 => ?_)
  replace hq := hq a89 h90 e91 e92 f93
  have t94 : tg h90 a89 = 104 := by rw [e92, e91]; exact tg_nA
  have t95 : tg h85 x0 = 12 := by rw [e86]; exact t84
  have t96 : tg h90 x0 = 12 := by rw [e92]; exact tg_nA_ne e91 f93 t95 (by decide)
  obtain ⟨h97, e98⟩ : ∃ y, y = sR h90 x0 2824 a89 := ⟨_, rfl⟩
  replace hq := hq h97 e98
  refine x_putFR fdX11_34 owX11_init_8 xty_A dX11_init_73 t96 (Or.inl (by rw [t96]; rfl)) rfl e98 ?_
  refine x_aload_n 0 dX11_init_76 rfl ?_
  refine x_ldc (v := 45000) q1238 dX11_init_77 ?_
  obtain ⟨g99, g100, hq⟩ := hq
  obtain ⟨a101, e103⟩ : ∃ y, y = nx h97 + 1 := ⟨_, rfl⟩
  obtain ⟨h102, e104⟩ : ∃ y, y = nA h97 100 (Int32.toNatClampNeg 45000) := ⟨_, rfl⟩
  refine x_newa' 0 pk_int dX11_init_79 (by decide) (by decide) g99 g100 e103 e104 (fun f105 => ?_)
  replace hq := hq a101 h102 e103 e104 f105
  have t106 : tg h102 a101 = 100 := by rw [e104, e103]; exact tg_nA
  have t107 : tg h97 x0 = 12 := by rw [e98]; exact t96
  have t108 : tg h102 x0 = 12 := by rw [e104]; exact tg_nA_ne e103 f105 t107 (by decide)
  obtain ⟨h109, e110⟩ : ∃ y, y = sR h102 x0 2825 a101 := ⟨_, rfl⟩
  replace hq := hq h109 e110
  refine x_putFR fdX11_38 owX11_init_9 xty_A dX11_init_81 t108 (Or.inl (by rw [t108]; rfl)) rfl e110 ?_
  refine x_aload_n 0 dX11_init_84 rfl ?_
  refine x_ldc (v := 45000) q1238 dX11_init_85 ?_
  obtain ⟨g111, g112, hq⟩ := hq
  obtain ⟨a113, e115⟩ : ∃ y, y = nx h109 + 1 := ⟨_, rfl⟩
  obtain ⟨h114, e116⟩ : ∃ y, y = nA h109 101 (Int32.toNatClampNeg 45000) := ⟨_, rfl⟩
  refine x_newa' 1 pk_long dX11_init_87 (by decide) (by decide) g111 g112 e115 e116 (fun f117 => ?_)
  replace hq := hq a113 h114 e115 e116 f117
  have t118 : tg h114 a113 = 101 := by rw [e116, e115]; exact tg_nA
  have t119 : tg h109 x0 = 12 := by rw [e110]; exact t108
  have t120 : tg h114 x0 = 12 := by rw [e116]; exact tg_nA_ne e115 f117 t119 (by decide)
  obtain ⟨h121, e122⟩ : ∃ y, y = sR h114 x0 2826 a113 := ⟨_, rfl⟩
  replace hq := hq h121 e122
  refine x_putFR fdX11_41 owX11_init_10 xty_A dX11_init_89 t120 (Or.inl (by rw [t120]; rfl)) rfl e122 ?_
  refine x_aload_n 0 dX11_init_92 rfl ?_
  refine x_ldc (v := 45000) q1238 dX11_init_93 ?_
  obtain ⟨g123, g124, hq⟩ := hq
  obtain ⟨a125, e127⟩ : ∃ y, y = nx h121 + 1 := ⟨_, rfl⟩
  obtain ⟨h126, e128⟩ : ∃ y, y = nA h121 101 (Int32.toNatClampNeg 45000) := ⟨_, rfl⟩
  refine x_newa' 1 pk_long dX11_init_95 (by decide) (by decide) g123 g124 e127 e128 (fun f129 => ?_)
  replace hq := hq a125 h126 e127 e128 f129
  have t130 : tg h126 a125 = 101 := by rw [e128, e127]; exact tg_nA
  have t131 : tg h121 x0 = 12 := by rw [e122]; exact t120
  have t132 : tg h126 x0 = 12 := by rw [e128]; exact tg_nA_ne e127 f129 t131 (by decide)
  obtain ⟨h133, e134⟩ : ∃ y, y = sR h126 x0 2827 a125 := ⟨_, rfl⟩
  replace hq := hq h133 e134
  refine x_putFR fdX11_45 owX11_init_11 xty_A dX11_init_97 t132 (Or.inl (by rw [t132]; rfl)) rfl e134 ?_
  refine x_aload_n 0 dX11_init_100 rfl ?_
  refine x_ldc (v := 45000) q1238 dX11_init_101 ?_
  obtain ⟨g135, g136, hq⟩ := hq
  obtain ⟨a137, e139⟩ : ∃ y, y = nx h133 + 1 := ⟨_, rfl⟩
  obtain ⟨h138, e140⟩ : ∃ y, y = nA h133 102 (Int32.toNatClampNeg 45000) := ⟨_, rfl⟩
  refine x_newa' 2 pk_double dX11_init_103 (by decide) (by decide) g135 g136 e139 e140 (fun f141 => ?_)
  replace hq := hq a137 h138 e139 e140 f141
  have t142 : tg h138 a137 = 102 := by rw [e140, e139]; exact tg_nA
  have t143 : tg h133 x0 = 12 := by rw [e134]; exact t132
  have t144 : tg h138 x0 = 12 := by rw [e140]; exact tg_nA_ne e139 f141 t143 (by decide)
  obtain ⟨h145, e146⟩ : ∃ y, y = sR h138 x0 2828 a137 := ⟨_, rfl⟩
  replace hq := hq h145 e146
  refine x_putFR fdX11_48 owX11_init_12 xty_A dX11_init_105 t144 (Or.inl (by rw [t144]; rfl)) rfl e146 ?_
  refine x_aload_n 0 dX11_init_108 rfl ?_
  refine x_ldc (v := 45000) q1238 dX11_init_109 ?_
  obtain ⟨g147, g148, hq⟩ := hq
  obtain ⟨a149, e151⟩ : ∃ y, y = nx h145 + 1 := ⟨_, rfl⟩
  obtain ⟨h150, e152⟩ : ∃ y, y = nA h145 104 (Int32.toNatClampNeg 45000) := ⟨_, rfl⟩
  refine x_newa' 4 pk_boolean dX11_init_111 (by decide) (by decide) g147 g148 e151 e152 (fun f153 => ?_)
  replace hq := hq a149 h150 e151 e152 f153
  have t154 : tg h150 a149 = 104 := by rw [e152, e151]; exact tg_nA
  have t155 : tg h145 x0 = 12 := by rw [e146]; exact t144
  have t156 : tg h150 x0 = 12 := by rw [e152]; exact tg_nA_ne e151 f153 t155 (by decide)
  obtain ⟨h157, e158⟩ : ∃ y, y = sR h150 x0 2829 a149 := ⟨_, rfl⟩
  replace hq := hq h157 e158
  refine x_putFR fdX11_52 owX11_init_13 xty_A dX11_init_113 t156 (Or.inl (by rw [t156]; rfl)) rfl e158 ?_
  refine x_aload_n 0 dX11_init_116 rfl ?_
  refine x_aload_n 1 dX11_init_117 rfl ?_
  have t159 : tg h157 x0 = 12 := by rw [e158]; exact t156
  obtain ⟨h160, e161⟩ : ∃ y, y = sR h157 x0 2816 x1 := ⟨_, rfl⟩
  replace hq := hq h160 e161
  refine x_putFR fdX11_55 owX11_init_0 xty_O dX11_init_118 t159 (Or.inl (by rw [t159]; rfl)) rfl e161 ?_
  exact x_vret rfl dX11_init_121 hq
theorem rX11_init {G : xG} {fr lo : Nat} {x0 : Nat} {x1 : Nat} {h : xH} {Q : Outcome → xH → Prop} (hq : bX11_init G fr lo x0 x1 h Q) : xR G YX11_init fr lo [rv x0, rv x1] h Q := by
  show xP _ _ _ _ _ (lv_args 0 _) _ _ _
  rw [show lv_args 0 [rv x0, rv x1] = [(0, rv x0), (1, rv x1)] from (xla1 (rv_cat _) (xla1 (rv_cat _) xla0))]
  exact uX11_init hq
set_option maxRecDepth 100000 in
theorem dX11_begin_0 : decode cX11_begin 0 = .ok (.iconst 0, 1) := by decide +kernel
set_option maxRecDepth 100000 in
theorem dX11_begin_1 : decode cX11_begin 1 = .ok (.istore_n 1, 1) := by decide +kernel
set_option maxRecDepth 100000 in
theorem dX11_begin_2 : decode cX11_begin 2 = .ok (.iload_n 1, 1) := by decide +kernel
set_option maxRecDepth 100000 in
theorem dX11_begin_3 : decode cX11_begin 3 = .ok (.ldc 37, 2) := by decide +kernel
set_option maxRecDepth 100000 in
theorem dX11_begin_5 : decode cX11_begin 5 = .ok (.if_icmp .ge 30, 3) := by decide +kernel
set_option maxRecDepth 100000 in
theorem dX11_begin_8 : decode cX11_begin 8 = .ok (.aload_n 0, 1) := by decide +kernel
set_option maxRecDepth 100000 in
theorem dX11_begin_9 : decode cX11_begin 9 = .ok (.getfield 38, 3) := by decide +kernel
set_option maxRecDepth 100000 in
theorem dX11_begin_12 : decode cX11_begin 12 = .ok (.iload_n 1, 1) := by decide +kernel
set_option maxRecDepth 100000 in
theorem dX11_begin_13 : decode cX11_begin 13 = .ok (.iload_n 1, 1) := by decide +kernel
set_option maxRecDepth 100000 in
theorem dX11_begin_14 : decode cX11_begin 14 = .ok (.iconst 1, 1) := by decide +kernel
set_option maxRecDepth 100000 in
theorem dX11_begin_15 : decode cX11_begin 15 = .ok (.iadd, 1) := by decide +kernel
set_option maxRecDepth 100000 in
theorem dX11_begin_16 : decode cX11_begin 16 = .ok (.ldc 37, 2) := by decide +kernel
set_option maxRecDepth 100000 in
theorem dX11_begin_18 : decode cX11_begin 18 = .ok (.if_icmp .ge 9, 3) := by decide +kernel
set_option maxRecDepth 100000 in
theorem dX11_begin_21 : decode cX11_begin 21 = .ok (.iload_n 1, 1) := by decide +kernel
set_option maxRecDepth 100000 in
theorem dX11_begin_22 : decode cX11_begin 22 = .ok (.iconst 1, 1) := by decide +kernel
set_option maxRecDepth 100000 in
theorem dX11_begin_23 : decode cX11_begin 23 = .ok (.iadd, 1) := by decide +kernel
set_option maxRecDepth 100000 in
theorem dX11_begin_24 : decode cX11_begin 24 = .ok (.goto 4, 3) := by decide +kernel
set_option maxRecDepth 100000 in
theorem dX11_begin_27 : decode cX11_begin 27 = .ok (.iconst (-1), 1) := by decide +kernel
set_option maxRecDepth 100000 in
theorem dX11_begin_28 : decode cX11_begin 28 = .ok (.iastore, 1) := by decide +kernel
set_option maxRecDepth 100000 in
theorem dX11_begin_29 : decode cX11_begin 29 = .ok (.iinc 1 1, 3) := by decide +kernel
set_option maxRecDepth 100000 in
theorem dX11_begin_32 : decode cX11_begin 32 = .ok (.goto (-30), 3) := by decide +kernel
set_option maxRecDepth 100000 in
theorem dX11_begin_35 : decode cX11_begin 35 = .ok (.aload_n 0, 1) := by decide +kernel
set_option maxRecDepth 100000 in
theorem dX11_begin_36 : decode cX11_begin 36 = .ok (.iconst 0, 1) := by decide +kernel
set_option maxRecDepth 100000 in
theorem dX11_begin_37 : decode cX11_begin 37 = .ok (.putfield 59, 3) := by decide +kernel
set_option maxRecDepth 100000 in
theorem dX11_begin_40 : decode cX11_begin 40 = .ok (.aload_n 0, 1) := by decide +kernel
set_option maxRecDepth 100000 in
theorem dX11_begin_41 : decode cX11_begin 41 = .ok (.iconst 0, 1) := by decide +kernel
set_option maxRecDepth 100000 in
theorem dX11_begin_42 : decode cX11_begin 42 = .ok (.putfield 63, 3) := by decide +kernel
set_option maxRecDepth 100000 in
theorem dX11_begin_45 : decode cX11_begin 45 = .ok (.return_, 1) := by decide +kernel
def lX11_begin_2 (G : xG) (fr lo : Nat) (x0 : Nat) (x1 : Int32) (h : xH) (Q : Outcome → xH → Prop) : Prop := xP G YX11_begin fr lo 2 [(0, rv x0), (1, .int x1)] [] h Q
set_option maxRecDepth 100000 in
def bX11_begin_28 (G : xG) (fr lo : Nat) (x0 : Nat) (x1 : Int32) (s0 : Int32) (s1 : Int32) (s2 : Nat) (h : xH) (Q : Outcome → xH → Prop) : Prop := tg h s2 = 100 ∧ vp_in s1 (ln h s2) ∧ (∀ h3 : xH, h3 = tI h s2 (Int32.toNatClampNeg s1) s0 → lX11_begin_2 G fr lo x0 (x1 + 1) h3 Q)
set_option maxRecDepth 100000 in
theorem uX11_begin_28 {G : xG} {fr lo : Nat} {x0 : Nat} {x1 : Int32} {s0 : Int32} {s1 : Int32} {s2 : Nat} {h : xH} {Q : Outcome → xH → Prop} (hq : bX11_begin_28 G fr lo x0 x1 s0 s1 s2 h Q) : xP G YX11_begin fr lo 28 [(0, rv x0), (1, .int x1)] [.int s0, .int s1, rv s2] h Q := by
  unfold bX11_begin_28 at hq
  obtain ⟨g1, hq⟩ := hq
  obtain ⟨i2, hq⟩ := hq
  obtain ⟨h3, e4⟩ : ∃ y, y = tI h s2 (Int32.toNatClampNeg s1) s0 := ⟨_, rfl⟩
  replace hq := hq h3 e4
  refine x_iast' g1 i2 dX11_begin_28 e4 ?_
  refine x_iinc (lv' := [(1, .int (x1 + 1)), (0, rv x0)]) 1 dX11_begin_29 rfl (by decide) (by first | rfl | (simp [rv_cat, Value.category]; done) | (simp [rv_cat, Value.category]; decide)) ?_
  refine x_goto (tgt := 2) dX11_begin_32 (by decide) ?_
  refine xP.pick (lv' := [(0, rv x0), (1, .int (x1 + 1))]) [1, 0] rfl ?_
  exact hq
set_option maxRecDepth 100000 in
def bX11_begin_2 (G : xG) (fr lo : Nat) (x0 : Nat) (x1 : Int32) (h : xH) (Q : Outcome → xH → Prop) : Prop := ((45000 ≤ x1 → tg h x0 = 12 ∧ (∀ h3 : xH, h3 = sI h x0 2830 0 → (∀ h6 : xH, h6 = sI h3 x0 2831 0 → Q (.returned none) h6))) ∧ (¬ 45000 ≤ x1 → tg h x0 = 12 ∧ ((45000 ≤ (x1 + 1) → bX11_begin_28 G fr lo x0 x1 (-1) x1 (fR h x0 2825) h Q) ∧ (¬ 45000 ≤ (x1 + 1) → bX11_begin_28 G fr lo x0 x1 (x1 + 1) x1 (fR h x0 2825) h Q))))
set_option maxRecDepth 100000 in
theorem uX11_begin_2 {G : xG} {fr lo : Nat} {x0 : Nat} {x1 : Int32} {h : xH} {Q : Outcome → xH → Prop} (hq : bX11_begin_2 G fr lo x0 x1 h Q) : xP G YX11_begin fr lo 2 [(0, rv x0), (1, .int x1)] [] h Q := by
  unfold bX11_begin_2 at hq
  refine x_iload_n 1 dX11_begin_2 rfl ?_
  refine x_ldc (v := 45000) q1238 dX11_begin_3 ?_
  refine x_icmp_ge (tgt := 35) dX11_begin_5 (by decide) (fun c1 => ?_) (fun c1 => ?_)
  · replace hq := hq.1 c1
    refine x_aload_n 0 dX11_begin_35 rfl ?_
    refine x_iconst (v := 0) dX11_begin_36 (by decide) ?_
    obtain ⟨g2, hq⟩ := hq
    obtain ⟨h3, e4⟩ : ∃ y, y = sI h x0 2830 0 := ⟨_, rfl⟩
    replace hq := hq h3 e4
    refine x_putI fdX11_59 xty_I1 dX11_begin_37 g2 (Or.inl (by rw [g2]; rfl)) xnI rfl e4 ?_
    refine x_aload_n 0 dX11_begin_40 rfl ?_
    refine x_iconst (v := 0) dX11_begin_41 (by decide) ?_
    have t5 : tg h3 x0 = 12 := by rw [e4]; exact g2
    obtain ⟨h6, e7⟩ : ∃ y, y = sI h3 x0 2831 0 := ⟨_, rfl⟩
    replace hq := hq h6 e7
    refine x_putI fdX11_63 xty_I1 dX11_begin_42 t5 (Or.inl (by rw [t5]; rfl)) xnI rfl e7 ?_
    exact x_vret rfl dX11_begin_45 hq
  · replace hq := hq.2 c1
    refine x_aload_n 0 dX11_begin_8 rfl ?_
    obtain ⟨g8, hq⟩ := hq
    refine x_get (v := rv (fR h x0 2825)) fdX11_38 dX11_begin_9 g8 rfl ?_
    refine x_iload_n 1 dX11_begin_12 rfl ?_
    refine x_iload_n 1 dX11_begin_13 rfl ?_
    refine x_iconst (v := 1) dX11_begin_14 (by decide) ?_
    refine x_iadd dX11_begin_15 ?_
    refine x_ldc (v := 45000) q1238 dX11_begin_16 ?_
    refine x_icmp_ge (tgt := 27) dX11_begin_18 (by decide) (fun c9 => ?_) (fun c9 => ?_)
    · replace hq := hq.1 c9
      refine x_iconst (v := (-1)) dX11_begin_27 (by decide) ?_
      exact uX11_begin_28 hq
    · replace hq := hq.2 c9
      refine x_iload_n 1 dX11_begin_21 rfl ?_
      refine x_iconst (v := 1) dX11_begin_22 (by decide) ?_
      refine x_iadd dX11_begin_23 ?_
      refine x_goto (tgt := 28) dX11_begin_24 (by decide) ?_
      exact uX11_begin_28 hq
set_option maxRecDepth 100000 in
def bX11_begin (G : xG) (fr lo : Nat) (x0 : Nat) (h : xH) (Q : Outcome → xH → Prop) : Prop := lX11_begin_2 G fr lo x0 0 h Q
set_option maxRecDepth 100000 in
theorem uX11_begin {G : xG} {fr lo : Nat} {x0 : Nat} {h : xH} {Q : Outcome → xH → Prop} (hq : bX11_begin G fr lo x0 h Q) : xP G YX11_begin fr lo 0 [(0, rv x0)] [] h Q := by
  unfold bX11_begin at hq
  refine x_iconst (v := 0) dX11_begin_0 (by decide) ?_
  refine x_istore_n (lv' := [(1, .int 0), (0, rv x0)]) dX11_begin_1 (by decide) (by first | rfl | (simp [rv_cat, Value.category]; done) | (simp [rv_cat, Value.category]; decide)) ?_
  refine xP.pick (lv' := [(0, rv x0), (1, .int 0)]) [1, 0] rfl ?_
  exact hq
theorem rX11_begin {G : xG} {fr lo : Nat} {x0 : Nat} {h : xH} {Q : Outcome → xH → Prop} (hq : bX11_begin G fr lo x0 h Q) : xR G YX11_begin fr lo [rv x0] h Q := by
  show xP _ _ _ _ _ (lv_args 0 _) _ _ _
  rw [show lv_args 0 [rv x0] = [(0, rv x0)] from (xla1 (rv_cat _) xla0)]
  exact uX11_begin hq
set_option maxRecDepth 100000 in
theorem dX11_open_0 : decode cX11_open 0 = .ok (.aload_n 0, 1) := by decide +kernel
set_option maxRecDepth 100000 in
theorem dX11_open_1 : decode cX11_open 1 = .ok (.getfield 9, 3) := by decide +kernel
set_option maxRecDepth 100000 in
theorem dX11_open_4 : decode cX11_open 4 = .ok (.iload_n 1, 1) := by decide +kernel
set_option maxRecDepth 100000 in
theorem dX11_open_5 : decode cX11_open 5 = .ok (.iconst 0, 1) := by decide +kernel
set_option maxRecDepth 100000 in
theorem dX11_open_6 : decode cX11_open 6 = .ok (.iastore, 1) := by decide +kernel
set_option maxRecDepth 100000 in
theorem dX11_open_7 : decode cX11_open 7 = .ok (.aload_n 0, 1) := by decide +kernel
set_option maxRecDepth 100000 in
theorem dX11_open_8 : decode cX11_open 8 = .ok (.getfield 15, 3) := by decide +kernel
set_option maxRecDepth 100000 in
theorem dX11_open_11 : decode cX11_open 11 = .ok (.iload_n 1, 1) := by decide +kernel
set_option maxRecDepth 100000 in
theorem dX11_open_12 : decode cX11_open 12 = .ok (.iconst (-1), 1) := by decide +kernel
set_option maxRecDepth 100000 in
theorem dX11_open_13 : decode cX11_open 13 = .ok (.iastore, 1) := by decide +kernel
set_option maxRecDepth 100000 in
theorem dX11_open_14 : decode cX11_open 14 = .ok (.aload_n 0, 1) := by decide +kernel
set_option maxRecDepth 100000 in
theorem dX11_open_15 : decode cX11_open 15 = .ok (.getfield 18, 3) := by decide +kernel
set_option maxRecDepth 100000 in
theorem dX11_open_18 : decode cX11_open 18 = .ok (.iload_n 1, 1) := by decide +kernel
set_option maxRecDepth 100000 in
theorem dX11_open_19 : decode cX11_open 19 = .ok (.iconst (-1), 1) := by decide +kernel
set_option maxRecDepth 100000 in
theorem dX11_open_20 : decode cX11_open 20 = .ok (.iastore, 1) := by decide +kernel
set_option maxRecDepth 100000 in
theorem dX11_open_21 : decode cX11_open 21 = .ok (.aload_n 0, 1) := by decide +kernel
set_option maxRecDepth 100000 in
theorem dX11_open_22 : decode cX11_open 22 = .ok (.getfield 21, 3) := by decide +kernel
set_option maxRecDepth 100000 in
theorem dX11_open_25 : decode cX11_open 25 = .ok (.iload_n 1, 1) := by decide +kernel
set_option maxRecDepth 100000 in
theorem dX11_open_26 : decode cX11_open 26 = .ok (.iconst (-1), 1) := by decide +kernel
set_option maxRecDepth 100000 in
theorem dX11_open_27 : decode cX11_open 27 = .ok (.iastore, 1) := by decide +kernel
set_option maxRecDepth 100000 in
theorem dX11_open_28 : decode cX11_open 28 = .ok (.aload_n 0, 1) := by decide +kernel
set_option maxRecDepth 100000 in
theorem dX11_open_29 : decode cX11_open 29 = .ok (.getfield 24, 3) := by decide +kernel
set_option maxRecDepth 100000 in
theorem dX11_open_32 : decode cX11_open 32 = .ok (.iload_n 1, 1) := by decide +kernel
set_option maxRecDepth 100000 in
theorem dX11_open_33 : decode cX11_open 33 = .ok (.iconst 0, 1) := by decide +kernel
set_option maxRecDepth 100000 in
theorem dX11_open_34 : decode cX11_open 34 = .ok (.iastore, 1) := by decide +kernel
set_option maxRecDepth 100000 in
theorem dX11_open_35 : decode cX11_open 35 = .ok (.aload_n 0, 1) := by decide +kernel
set_option maxRecDepth 100000 in
theorem dX11_open_36 : decode cX11_open 36 = .ok (.getfield 30, 3) := by decide +kernel
set_option maxRecDepth 100000 in
theorem dX11_open_39 : decode cX11_open 39 = .ok (.iload_n 1, 1) := by decide +kernel
set_option maxRecDepth 100000 in
theorem dX11_open_40 : decode cX11_open 40 = .ok (.aload_n 2, 1) := by decide +kernel
set_option maxRecDepth 100000 in
theorem dX11_open_41 : decode cX11_open 41 = .ok (.invokevirtual 66, 3) := by decide +kernel
set_option maxRecDepth 100000 in
theorem dX11_open_44 : decode cX11_open 44 = .ok (.bastore, 1) := by decide +kernel
set_option maxRecDepth 100000 in
theorem dX11_open_45 : decode cX11_open 45 = .ok (.aload_n 0, 1) := by decide +kernel
set_option maxRecDepth 100000 in
theorem dX11_open_46 : decode cX11_open 46 = .ok (.getfield 34, 3) := by decide +kernel
set_option maxRecDepth 100000 in
theorem dX11_open_49 : decode cX11_open 49 = .ok (.iload_n 1, 1) := by decide +kernel
set_option maxRecDepth 100000 in
theorem dX11_open_50 : decode cX11_open 50 = .ok (.iconst 0, 1) := by decide +kernel
set_option maxRecDepth 100000 in
theorem dX11_open_51 : decode cX11_open 51 = .ok (.bastore, 1) := by decide +kernel
set_option maxRecDepth 100000 in
theorem dX11_open_52 : decode cX11_open 52 = .ok (.aload_n 0, 1) := by decide +kernel
set_option maxRecDepth 100000 in
theorem dX11_open_53 : decode cX11_open 53 = .ok (.getfield 27, 3) := by decide +kernel
set_option maxRecDepth 100000 in
theorem dX11_open_56 : decode cX11_open 56 = .ok (.iload_n 1, 1) := by decide +kernel
set_option maxRecDepth 100000 in
theorem dX11_open_57 : decode cX11_open 57 = .ok (.aload_n 2, 1) := by decide +kernel
set_option maxRecDepth 100000 in
theorem dX11_open_58 : decode cX11_open 58 = .ok (.getfield 71, 3) := by decide +kernel
set_option maxRecDepth 100000 in
theorem dX11_open_61 : decode cX11_open 61 = .ok (.getfield 75, 3) := by decide +kernel
set_option maxRecDepth 100000 in
theorem dX11_open_64 : decode cX11_open 64 = .ok (.iconst 1, 1) := by decide +kernel
set_option maxRecDepth 100000 in
theorem dX11_open_65 : decode cX11_open 65 = .ok (.if_icmp .ge 7, 3) := by decide +kernel
set_option maxRecDepth 100000 in
theorem dX11_open_68 : decode cX11_open 68 = .ok (.iconst 1, 1) := by decide +kernel
set_option maxRecDepth 100000 in
theorem dX11_open_69 : decode cX11_open 69 = .ok (.goto 10, 3) := by decide +kernel
set_option maxRecDepth 100000 in
theorem dX11_open_72 : decode cX11_open 72 = .ok (.aload_n 2, 1) := by decide +kernel
set_option maxRecDepth 100000 in
theorem dX11_open_73 : decode cX11_open 73 = .ok (.getfield 71, 3) := by decide +kernel
set_option maxRecDepth 100000 in
theorem dX11_open_76 : decode cX11_open 76 = .ok (.getfield 75, 3) := by decide +kernel
set_option maxRecDepth 100000 in
theorem dX11_open_79 : decode cX11_open 79 = .ok (.iastore, 1) := by decide +kernel
set_option maxRecDepth 100000 in
theorem dX11_open_80 : decode cX11_open 80 = .ok (.return_, 1) := by decide +kernel
set_option maxRecDepth 100000 in
def bX11_open_79 (G : xG) (fr lo : Nat) (s0 : Int32) (s1 : Int32) (s2 : Nat) (h : xH) (Q : Outcome → xH → Prop) : Prop := tg h s2 = 100 ∧ vp_in s1 (ln h s2) ∧ (∀ h3 : xH, h3 = tI h s2 (Int32.toNatClampNeg s1) s0 → Q (.returned none) h3)
set_option maxRecDepth 100000 in
theorem uX11_open_79 {G : xG} {fr lo : Nat} {s0 : Int32} {s1 : Int32} {s2 : Nat} {h : xH} {Q : Outcome → xH → Prop} (hq : bX11_open_79 G fr lo s0 s1 s2 h Q) : xP G YX11_open fr lo 79 [] [.int s0, .int s1, rv s2] h Q := by
  unfold bX11_open_79 at hq
  obtain ⟨g1, hq⟩ := hq
  obtain ⟨i2, hq⟩ := hq
  obtain ⟨h3, e4⟩ : ∃ y, y = tI h s2 (Int32.toNatClampNeg s1) s0 := ⟨_, rfl⟩
  replace hq := hq h3 e4
  refine x_iast' g1 i2 dX11_open_79 e4 ?_
  exact x_vret rfl dX11_open_80 hq
set_option maxRecDepth 100000 in
def bX11_open (G : xG) (fr lo : Nat) (x0 : Nat) (x1 : Int32) (x2 : Nat) (h : xH) (Q : Outcome → xH → Prop) : Prop := tg h x0 = 12 ∧ tg h (fR h x0 2817) = 100 ∧ vp_in x1 (ln h (fR h x0 2817)) ∧ (∀ h4 : xH, h4 = tI h (fR h x0 2817) (Int32.toNatClampNeg x1) 0 → tg h4 (fR h4 x0 2818) = 100 ∧ vp_in x1 (ln h4 (fR h4 x0 2818)) ∧ (∀ h9 : xH, h9 = tI h4 (fR h4 x0 2818) (Int32.toNatClampNeg x1) (-1) → tg h9 (fR h9 x0 2819) = 100 ∧ vp_in x1 (ln h9 (fR h9 x0 2819)) ∧ (∀ h14 : xH, h14 = tI h9 (fR h9 x0 2819) (Int32.toNatClampNeg x1) (-1) → tg h14 (fR h14 x0 2820) = 100 ∧ vp_in x1 (ln h14 (fR h14 x0 2820)) ∧ (∀ h19 : xH, h19 = tI h14 (fR h14 x0 2820) (Int32.toNatClampNeg x1) (-1) → tg h19 (fR h19 x0 2821) = 100 ∧ vp_in x1 (ln h19 (fR h19 x0 2821)) ∧ (∀ h24 : xH, h24 = tI h19 (fR h19 x0 2821) (Int32.toNatClampNeg x1) 0 → tg h24 x2 = 7 ∧ 1 ≤ fr ∧ 14 ≤ lo ∧ xRi G YX6_isText (fr - 1) (lo - 14) [rv x2] h24 (fun x31 h30 => xext h24 h30 → tg h30 (fR h24 x0 2823) = 104 ∧ vp_in x1 (ln h30 (fR h24 x0 2823)) ∧ (∀ h35 : xH, h35 = tI h30 (fR h24 x0 2823) (Int32.toNatClampNeg x1) (vp_nar .boolean x31) → tg h35 (fR h35 x0 2824) = 104 ∧ vp_in x1 (ln h35 (fR h35 x0 2824)) ∧ (∀ h41 : xH, h41 = tI h35 (fR h35 x0 2824) (Int32.toNatClampNeg x1) (vp_nar .boolean 0) → tg h41 (fR h41 x2 1538) = 7 ∧ ((1 ≤ (fI h41 (fR h41 x2 1538) 1543) → bX11_open_79 G fr lo (fI h41 (fR h41 x2 1538) 1543) x1 (fR h41 x0 2822) h41 Q) ∧ (¬ 1 ≤ (fI h41 (fR h41 x2 1538) 1543) → bX11_open_79 G fr lo 1 x1 (fR h41 x0 2822) h41 Q))))) (fun r h2 => Q (.threw r) h2))))))
set_option maxRecDepth 100000 in
theorem uX11_open {G : xG} {fr lo : Nat} {x0 : Nat} {x1 : Int32} {x2 : Nat} {h : xH} {Q : Outcome → xH → Prop} (hq : bX11_open G fr lo x0 x1 x2 h Q) : xP G YX11_open fr lo 0 [(0, rv x0), (1, .int x1), (2, rv x2)] [] h Q := by
  unfold bX11_open at hq
  refine x_aload_n 0 dX11_open_0 rfl ?_
  obtain ⟨g1, hq⟩ := hq
  refine x_get (v := rv (fR h x0 2817)) fdX11_9 dX11_open_1 g1 rfl ?_
  refine x_iload_n 1 dX11_open_4 rfl ?_
  refine x_iconst (v := 0) dX11_open_5 (by decide) ?_
  obtain ⟨g2, hq⟩ := hq
  obtain ⟨i3, hq⟩ := hq
  obtain ⟨h4, e5⟩ : ∃ y, y = tI h (fR h x0 2817) (Int32.toNatClampNeg x1) 0 := ⟨_, rfl⟩
  replace hq := hq h4 e5
  refine x_iast' g2 i3 dX11_open_6 e5 ?_
  refine x_aload_n 0 dX11_open_7 rfl ?_
  have t6 : tg h4 x0 = 12 := by rw [e5]; exact g1
  refine x_get (v := rv (fR h4 x0 2818)) fdX11_15 dX11_open_8 t6 rfl ?_
  refine x_iload_n 1 dX11_open_11 rfl ?_
  refine x_iconst (v := (-1)) dX11_open_12 (by decide) ?_
  obtain ⟨g7, hq⟩ := hq
  obtain ⟨i8, hq⟩ := hq
  obtain ⟨h9, e10⟩ : ∃ y, y = tI h4 (fR h4 x0 2818) (Int32.toNatClampNeg x1) (-1) := ⟨_, rfl⟩
  replace hq := hq h9 e10
  refine x_iast' g7 i8 dX11_open_13 e10 ?_
  refine x_aload_n 0 dX11_open_14 rfl ?_
  have t11 : tg h9 x0 = 12 := by rw [e10]; exact t6
  refine x_get (v := rv (fR h9 x0 2819)) fdX11_18 dX11_open_15 t11 rfl ?_
  refine x_iload_n 1 dX11_open_18 rfl ?_
  refine x_iconst (v := (-1)) dX11_open_19 (by decide) ?_
  obtain ⟨g12, hq⟩ := hq
  obtain ⟨i13, hq⟩ := hq
  obtain ⟨h14, e15⟩ : ∃ y, y = tI h9 (fR h9 x0 2819) (Int32.toNatClampNeg x1) (-1) := ⟨_, rfl⟩
  replace hq := hq h14 e15
  refine x_iast' g12 i13 dX11_open_20 e15 ?_
  refine x_aload_n 0 dX11_open_21 rfl ?_
  have t16 : tg h14 x0 = 12 := by rw [e15]; exact t11
  refine x_get (v := rv (fR h14 x0 2820)) fdX11_21 dX11_open_22 t16 rfl ?_
  refine x_iload_n 1 dX11_open_25 rfl ?_
  refine x_iconst (v := (-1)) dX11_open_26 (by decide) ?_
  obtain ⟨g17, hq⟩ := hq
  obtain ⟨i18, hq⟩ := hq
  obtain ⟨h19, e20⟩ : ∃ y, y = tI h14 (fR h14 x0 2820) (Int32.toNatClampNeg x1) (-1) := ⟨_, rfl⟩
  replace hq := hq h19 e20
  refine x_iast' g17 i18 dX11_open_27 e20 ?_
  refine x_aload_n 0 dX11_open_28 rfl ?_
  have t21 : tg h19 x0 = 12 := by rw [e20]; exact t16
  refine x_get (v := rv (fR h19 x0 2821)) fdX11_24 dX11_open_29 t21 rfl ?_
  refine x_iload_n 1 dX11_open_32 rfl ?_
  refine x_iconst (v := 0) dX11_open_33 (by decide) ?_
  obtain ⟨g22, hq⟩ := hq
  obtain ⟨i23, hq⟩ := hq
  obtain ⟨h24, e25⟩ : ∃ y, y = tI h19 (fR h19 x0 2821) (Int32.toNatClampNeg x1) 0 := ⟨_, rfl⟩
  replace hq := hq h24 e25
  refine x_iast' g22 i23 dX11_open_34 e25 ?_
  refine x_aload_n 0 dX11_open_35 rfl ?_
  have t26 : tg h24 x0 = 12 := by rw [e25]; exact t21
  refine x_get (v := rv (fR h24 x0 2823)) fdX11_30 dX11_open_36 t26 rfl ?_
  refine x_iload_n 1 dX11_open_39 rfl ?_
  refine x_aload_n 2 dX11_open_40 rfl ?_
  obtain ⟨g27, hq⟩ := hq
  obtain ⟨g28, g29, hq⟩ := hq
  refine x_callV (Yc := YX6_isText) (as := []) (st := [.int x1, rv (fR h24 x0 2823)]) q2854 mvX6_isText g27 rfl dX11_open_41 (xle (xal1 (rv_cat _) xal0) (by decide)) (xfr g28) (xlo (xsw1 rfl (xsw1 (rv_cat _) xsw0)) (by decide) g29) (xKi hq (fun x31 h30 hq e32 => ?_) (fun _ _ q _ => q))
  replace hq := hq e32
  obtain ⟨g33, hq⟩ := hq
  obtain ⟨i34, hq⟩ := hq
  obtain ⟨h35, e36⟩ : ∃ y, y = tI h30 (fR h24 x0 2823) (Int32.toNatClampNeg x1) (vp_nar .boolean x31) := ⟨_, rfl⟩
  replace hq := hq h35 e36
  refine x_zast' g33 i34 dX11_open_44 e36 ?_
  refine x_aload_n 0 dX11_open_45 rfl ?_
  have t37 : tg h30 x0 = 12 := e32.tg t26 (by decide)
  have t38 : tg h35 x0 = 12 := by rw [e36]; exact t37
  refine x_get (v := rv (fR h35 x0 2824)) fdX11_34 dX11_open_46 t38 rfl ?_
  refine x_iload_n 1 dX11_open_49 rfl ?_
  refine x_iconst (v := 0) dX11_open_50 (by decide) ?_
  obtain ⟨g39, hq⟩ := hq
  obtain ⟨i40, hq⟩ := hq
  obtain ⟨h41, e42⟩ : ∃ y, y = tI h35 (fR h35 x0 2824) (Int32.toNatClampNeg x1) (vp_nar .boolean 0) := ⟨_, rfl⟩
  replace hq := hq h41 e42
  refine x_zast' g39 i40 dX11_open_51 e42 ?_
  refine x_aload_n 0 dX11_open_52 rfl ?_
  have t43 : tg h41 x0 = 12 := by rw [e42]; exact t38
  refine x_get (v := rv (fR h41 x0 2822)) fdX11_27 dX11_open_53 t43 rfl ?_
  refine x_iload_n 1 dX11_open_56 rfl ?_
  refine x_aload_n 2 dX11_open_57 rfl ?_
  have t44 : tg h30 x2 = 7 := e32.tg g27 (by decide)
  have t45 : tg h35 x2 = 7 := by rw [e36]; exact t44
  have t46 : tg h41 x2 = 7 := by rw [e42]; exact t45
  refine x_getN (v := rv (fR h41 x2 1538)) gfX11_71 dX11_open_58 t46 rfl ?_
  obtain ⟨g47, hq⟩ := hq
  refine x_getN (v := .int (fI h41 (fR h41 x2 1538) 1543)) gfX11_75 dX11_open_61 g47 rfl ?_
  refine x_iconst (v := 1) dX11_open_64 (by decide) ?_
  refine x_icmp_ge (tgt := 72) dX11_open_65 (by decide) (fun c48 => ?_) (fun c48 => ?_)
  · replace hq := hq.1 c48
    refine x_aload_n 2 dX11_open_72 rfl ?_
    refine x_getN (v := rv (fR h41 x2 1538)) gfX11_71 dX11_open_73 t46 rfl ?_
    refine x_getN (v := .int (fI h41 (fR h41 x2 1538) 1543)) gfX11_75 dX11_open_76 g47 rfl ?_
    refine xP.pick (lv' := []) [] rfl ?_
    exact uX11_open_79 hq
  · replace hq := hq.2 c48
    refine x_iconst (v := 1) dX11_open_68 (by decide) ?_
    refine x_goto (tgt := 79) dX11_open_69 (by decide) ?_
    refine xP.pick (lv' := []) [] rfl ?_
    exact uX11_open_79 hq
theorem rX11_open {G : xG} {fr lo : Nat} {x0 : Nat} {x1 : Int32} {x2 : Nat} {h : xH} {Q : Outcome → xH → Prop} (hq : bX11_open G fr lo x0 x1 x2 h Q) : xR G YX11_open fr lo [rv x0, .int x1, rv x2] h Q := by
  show xP _ _ _ _ _ (lv_args 0 _) _ _ _
  rw [show lv_args 0 [rv x0, .int x1, rv x2] = [(0, rv x0), (1, .int x1), (2, rv x2)] from (xla1 (rv_cat _) (xla1 rfl (xla1 (rv_cat _) xla0)))]
  exact uX11_open hq
set_option maxRecDepth 100000 in
theorem dX11_add_0 : decode cX11_add 0 = .ok (.aload_n 0, 1) := by decide +kernel
set_option maxRecDepth 100000 in
theorem dX11_add_1 : decode cX11_add 1 = .ok (.iload_n 1, 1) := by decide +kernel
set_option maxRecDepth 100000 in
theorem dX11_add_2 : decode cX11_add 2 = .ok (.invokevirtual 78, 3) := by decide +kernel
set_option maxRecDepth 100000 in
theorem dX11_add_5 : decode cX11_add 5 = .ok (.istore_n 3, 1) := by decide +kernel
set_option maxRecDepth 100000 in
theorem dX11_add_6 : decode cX11_add 6 = .ok (.aload_n 0, 1) := by decide +kernel
set_option maxRecDepth 100000 in
theorem dX11_add_7 : decode cX11_add 7 = .ok (.getfield 41, 3) := by decide +kernel
set_option maxRecDepth 100000 in
theorem dX11_add_10 : decode cX11_add 10 = .ok (.iload_n 3, 1) := by decide +kernel
set_option maxRecDepth 100000 in
theorem dX11_add_11 : decode cX11_add 11 = .ok (.iload_n 2, 1) := by decide +kernel
set_option maxRecDepth 100000 in
theorem dX11_add_12 : decode cX11_add 12 = .ok (.i2l, 1) := by decide +kernel
set_option maxRecDepth 100000 in
theorem dX11_add_13 : decode cX11_add 13 = .ok (.lastore, 1) := by decide +kernel
set_option maxRecDepth 100000 in
theorem dX11_add_14 : decode cX11_add 14 = .ok (.aload_n 0, 1) := by decide +kernel
set_option maxRecDepth 100000 in
theorem dX11_add_15 : decode cX11_add 15 = .ok (.getfield 52, 3) := by decide +kernel
set_option maxRecDepth 100000 in
theorem dX11_add_18 : decode cX11_add 18 = .ok (.iload_n 3, 1) := by decide +kernel
set_option maxRecDepth 100000 in
theorem dX11_add_19 : decode cX11_add 19 = .ok (.iconst 1, 1) := by decide +kernel
set_option maxRecDepth 100000 in
theorem dX11_add_20 : decode cX11_add 20 = .ok (.bastore, 1) := by decide +kernel
set_option maxRecDepth 100000 in
theorem dX11_add_21 : decode cX11_add 21 = .ok (.return_, 1) := by decide +kernel
set_option maxRecDepth 100000 in
def bX11_add (G : xG) (fr lo : Nat) (x0 : Nat) (x1 : Int32) (x2 : Int32) (h : xH) (Q : Outcome → xH → Prop) : Prop := tg h x0 = 12 ∧ 1 ≤ fr ∧ 14 ≤ lo ∧ xRi G YX11_node (fr - 1) (lo - 14) [rv x0, .int x1] h (fun x5 h4 => xext h h4 → tg h4 (fR h4 x0 2826) = 101 ∧ vp_in x5 (ln h4 (fR h4 x0 2826)) ∧ (∀ h10 : xH, h10 = tJ h4 (fR h4 x0 2826) (Int32.toNatClampNeg x5) (Int32.toInt64 x2) → tg h10 (fR h10 x0 2829) = 104 ∧ vp_in x5 (ln h10 (fR h10 x0 2829)) ∧ (∀ h15 : xH, h15 = tI h10 (fR h10 x0 2829) (Int32.toNatClampNeg x5) (vp_nar .boolean 1) → Q (.returned none) h15))) (fun r h2 => Q (.threw r) h2)
set_option maxRecDepth 100000 in
theorem uX11_add {G : xG} {fr lo : Nat} {x0 : Nat} {x1 : Int32} {x2 : Int32} {h : xH} {Q : Outcome → xH → Prop} (hq : bX11_add G fr lo x0 x1 x2 h Q) : xP G YX11_add fr lo 0 [(0, rv x0), (1, .int x1), (2, .int x2)] [] h Q := by
  unfold bX11_add at hq
  refine x_aload_n 0 dX11_add_0 rfl ?_
  refine x_iload_n 1 dX11_add_1 rfl ?_
  obtain ⟨g1, hq⟩ := hq
  obtain ⟨g2, g3, hq⟩ := hq
  refine x_callV (Yc := YX11_node) (as := [.int x1]) (st := []) q2863 mvX11_node g1 rfl dX11_add_2 (xle (xal1 (rv_cat _) (xal1 rfl xal0)) (by decide)) (xfr g2) (xlo xsw0 (by decide) g3) (xKi hq (fun x5 h4 hq e6 => ?_) (fun _ _ q _ => q))
  replace hq := hq e6
  refine x_istore_n (lv' := [(3, .int x5), (0, rv x0), (1, .int x1), (2, .int x2)]) dX11_add_5 (by decide) rfl ?_
  refine x_aload_n 1 dX11_add_6 rfl ?_
  have t7 : tg h4 x0 = 12 := e6.tg g1 (by decide)
  refine x_get (v := rv (fR h4 x0 2826)) fdX11_41 dX11_add_7 t7 rfl ?_
  refine x_iload_n 0 dX11_add_10 rfl ?_
  refine x_iload_n 3 dX11_add_11 rfl ?_
  refine x_i2l dX11_add_12 ?_
  obtain ⟨g8, hq⟩ := hq
  obtain ⟨i9, hq⟩ := hq
  obtain ⟨h10, e11⟩ : ∃ y, y = tJ h4 (fR h4 x0 2826) (Int32.toNatClampNeg x5) (Int32.toInt64 x2) := ⟨_, rfl⟩
  replace hq := hq h10 e11
  refine x_last' g8 i9 dX11_add_13 e11 ?_
  refine x_aload_n 1 dX11_add_14 rfl ?_
  have t12 : tg h10 x0 = 12 := by rw [e11]; exact t7
  refine x_get (v := rv (fR h10 x0 2829)) fdX11_52 dX11_add_15 t12 rfl ?_
  refine x_iload_n 0 dX11_add_18 rfl ?_
  refine x_iconst (v := 1) dX11_add_19 (by decide) ?_
  obtain ⟨g13, hq⟩ := hq
  obtain ⟨i14, hq⟩ := hq
  obtain ⟨h15, e16⟩ : ∃ y, y = tI h10 (fR h10 x0 2829) (Int32.toNatClampNeg x5) (vp_nar .boolean 1) := ⟨_, rfl⟩
  replace hq := hq h15 e16
  refine x_zast' g13 i14 dX11_add_20 e16 ?_
  exact x_vret rfl dX11_add_21 hq
theorem rX11_add {G : xG} {fr lo : Nat} {x0 : Nat} {x1 : Int32} {x2 : Int32} {h : xH} {Q : Outcome → xH → Prop} (hq : bX11_add G fr lo x0 x1 x2 h Q) : xR G YX11_add fr lo [rv x0, .int x1, .int x2] h Q := by
  show xP _ _ _ _ _ (lv_args 0 _) _ _ _
  rw [show lv_args 0 [rv x0, .int x1, .int x2] = [(0, rv x0), (1, .int x1), (2, .int x2)] from (xla1 (rv_cat _) (xla1 rfl (xla1 rfl xla0)))]
  exact uX11_add hq
set_option maxRecDepth 100000 in
theorem dX11_node_0 : decode cX11_node 0 = .ok (.aload_n 0, 1) := by decide +kernel
set_option maxRecDepth 100000 in
theorem dX11_node_1 : decode cX11_node 1 = .ok (.getfield 59, 3) := by decide +kernel
set_option maxRecDepth 100000 in
theorem dX11_node_4 : decode cX11_node 4 = .ok (.istore_n 2, 1) := by decide +kernel
set_option maxRecDepth 100000 in
theorem dX11_node_5 : decode cX11_node 5 = .ok (.aload_n 0, 1) := by decide +kernel
set_option maxRecDepth 100000 in
theorem dX11_node_6 : decode cX11_node 6 = .ok (.aload_n 0, 1) := by decide +kernel
set_option maxRecDepth 100000 in
theorem dX11_node_7 : decode cX11_node 7 = .ok (.getfield 38, 3) := by decide +kernel
set_option maxRecDepth 100000 in
theorem dX11_node_10 : decode cX11_node 10 = .ok (.iload_n 2, 1) := by decide +kernel
set_option maxRecDepth 100000 in
theorem dX11_node_11 : decode cX11_node 11 = .ok (.iaload, 1) := by decide +kernel
set_option maxRecDepth 100000 in
theorem dX11_node_12 : decode cX11_node 12 = .ok (.putfield 59, 3) := by decide +kernel
set_option maxRecDepth 100000 in
theorem dX11_node_15 : decode cX11_node 15 = .ok (.aload_n 0, 1) := by decide +kernel
set_option maxRecDepth 100000 in
theorem dX11_node_16 : decode cX11_node 16 = .ok (.getfield 38, 3) := by decide +kernel
set_option maxRecDepth 100000 in
theorem dX11_node_19 : decode cX11_node 19 = .ok (.iload_n 2, 1) := by decide +kernel
set_option maxRecDepth 100000 in
theorem dX11_node_20 : decode cX11_node 20 = .ok (.iconst (-1), 1) := by decide +kernel
set_option maxRecDepth 100000 in
theorem dX11_node_21 : decode cX11_node 21 = .ok (.iastore, 1) := by decide +kernel
set_option maxRecDepth 100000 in
theorem dX11_node_22 : decode cX11_node 22 = .ok (.aload_n 0, 1) := by decide +kernel
set_option maxRecDepth 100000 in
theorem dX11_node_23 : decode cX11_node 23 = .ok (.getfield 15, 3) := by decide +kernel
set_option maxRecDepth 100000 in
theorem dX11_node_26 : decode cX11_node 26 = .ok (.iload_n 1, 1) := by decide +kernel
set_option maxRecDepth 100000 in
theorem dX11_node_27 : decode cX11_node 27 = .ok (.iaload, 1) := by decide +kernel
set_option maxRecDepth 100000 in
theorem dX11_node_28 : decode cX11_node 28 = .ok (.iconst (-1), 1) := by decide +kernel
set_option maxRecDepth 100000 in
theorem dX11_node_29 : decode cX11_node 29 = .ok (.if_icmp .ne 13, 3) := by decide +kernel
set_option maxRecDepth 100000 in
theorem dX11_node_32 : decode cX11_node 32 = .ok (.aload_n 0, 1) := by decide +kernel
set_option maxRecDepth 100000 in
theorem dX11_node_33 : decode cX11_node 33 = .ok (.getfield 15, 3) := by decide +kernel
set_option maxRecDepth 100000 in
theorem dX11_node_36 : decode cX11_node 36 = .ok (.iload_n 1, 1) := by decide +kernel
set_option maxRecDepth 100000 in
theorem dX11_node_37 : decode cX11_node 37 = .ok (.iload_n 2, 1) := by decide +kernel
set_option maxRecDepth 100000 in
theorem dX11_node_38 : decode cX11_node 38 = .ok (.iastore, 1) := by decide +kernel
set_option maxRecDepth 100000 in
theorem dX11_node_39 : decode cX11_node 39 = .ok (.goto 15, 3) := by decide +kernel
set_option maxRecDepth 100000 in
theorem dX11_node_42 : decode cX11_node 42 = .ok (.aload_n 0, 1) := by decide +kernel
set_option maxRecDepth 100000 in
theorem dX11_node_43 : decode cX11_node 43 = .ok (.getfield 38, 3) := by decide +kernel
set_option maxRecDepth 100000 in
theorem dX11_node_46 : decode cX11_node 46 = .ok (.aload_n 0, 1) := by decide +kernel
set_option maxRecDepth 100000 in
theorem dX11_node_47 : decode cX11_node 47 = .ok (.getfield 18, 3) := by decide +kernel
set_option maxRecDepth 100000 in
theorem dX11_node_50 : decode cX11_node 50 = .ok (.iload_n 1, 1) := by decide +kernel
set_option maxRecDepth 100000 in
theorem dX11_node_51 : decode cX11_node 51 = .ok (.iaload, 1) := by decide +kernel
set_option maxRecDepth 100000 in
theorem dX11_node_52 : decode cX11_node 52 = .ok (.iload_n 2, 1) := by decide +kernel
set_option maxRecDepth 100000 in
theorem dX11_node_53 : decode cX11_node 53 = .ok (.iastore, 1) := by decide +kernel
set_option maxRecDepth 100000 in
theorem dX11_node_54 : decode cX11_node 54 = .ok (.aload_n 0, 1) := by decide +kernel
set_option maxRecDepth 100000 in
theorem dX11_node_55 : decode cX11_node 55 = .ok (.getfield 18, 3) := by decide +kernel
set_option maxRecDepth 100000 in
theorem dX11_node_58 : decode cX11_node 58 = .ok (.iload_n 1, 1) := by decide +kernel
set_option maxRecDepth 100000 in
theorem dX11_node_59 : decode cX11_node 59 = .ok (.iload_n 2, 1) := by decide +kernel
set_option maxRecDepth 100000 in
theorem dX11_node_60 : decode cX11_node 60 = .ok (.iastore, 1) := by decide +kernel
set_option maxRecDepth 100000 in
theorem dX11_node_61 : decode cX11_node 61 = .ok (.aload_n 0, 1) := by decide +kernel
set_option maxRecDepth 100000 in
theorem dX11_node_62 : decode cX11_node 62 = .ok (.getfield 24, 3) := by decide +kernel
set_option maxRecDepth 100000 in
theorem dX11_node_65 : decode cX11_node 65 = .ok (.iload_n 1, 1) := by decide +kernel
set_option maxRecDepth 100000 in
theorem dX11_node_66 : decode cX11_node 66 = .ok (.dup2, 1) := by decide +kernel
set_option maxRecDepth 100000 in
theorem dX11_node_67 : decode cX11_node 67 = .ok (.iaload, 1) := by decide +kernel
set_option maxRecDepth 100000 in
theorem dX11_node_68 : decode cX11_node 68 = .ok (.iconst 1, 1) := by decide +kernel
set_option maxRecDepth 100000 in
theorem dX11_node_69 : decode cX11_node 69 = .ok (.iadd, 1) := by decide +kernel
set_option maxRecDepth 100000 in
theorem dX11_node_70 : decode cX11_node 70 = .ok (.iastore, 1) := by decide +kernel
set_option maxRecDepth 100000 in
theorem dX11_node_71 : decode cX11_node 71 = .ok (.aload_n 0, 1) := by decide +kernel
set_option maxRecDepth 100000 in
theorem dX11_node_72 : decode cX11_node 72 = .ok (.dup, 1) := by decide +kernel
set_option maxRecDepth 100000 in
theorem dX11_node_73 : decode cX11_node 73 = .ok (.getfield 63, 3) := by decide +kernel
set_option maxRecDepth 100000 in
theorem dX11_node_76 : decode cX11_node 76 = .ok (.iconst 1, 1) := by decide +kernel
set_option maxRecDepth 100000 in
theorem dX11_node_77 : decode cX11_node 77 = .ok (.iadd, 1) := by decide +kernel
set_option maxRecDepth 100000 in
theorem dX11_node_78 : decode cX11_node 78 = .ok (.putfield 63, 3) := by decide +kernel
set_option maxRecDepth 100000 in
theorem dX11_node_81 : decode cX11_node 81 = .ok (.iload_n 2, 1) := by decide +kernel
set_option maxRecDepth 100000 in
theorem dX11_node_82 : decode cX11_node 82 = .ok (.ireturn, 1) := by decide +kernel
set_option maxRecDepth 100000 in
def bX11_node_54 (G : xG) (fr lo : Nat) (x0 : Nat) (x1 : Int32) (x2 : Int32) (h : xH) (Q : Outcome → xH → Prop) : Prop := tg h x0 = 12 ∧ tg h (fR h x0 2819) = 100 ∧ vp_in x1 (ln h (fR h x0 2819)) ∧ (∀ h4 : xH, h4 = tI h (fR h x0 2819) (Int32.toNatClampNeg x1) x2 → tg h4 (fR h4 x0 2821) = 100 ∧ vp_in x1 (ln h4 (fR h4 x0 2821)) ∧ vp_in x1 (ln h4 (fR h4 x0 2821)) ∧ (∀ h10 : xH, h10 = tI h4 (fR h4 x0 2821) (Int32.toNatClampNeg x1) ((aI h4 (fR h4 x0 2821) (Int32.toNatClampNeg x1)) + 1) → (∀ h13 : xH, h13 = sI h10 x0 2831 ((fI h10 x0 2831) + 1) → Q (.returned (some (.int x2))) h13)))
set_option maxRecDepth 100000 in
theorem uX11_node_54 {G : xG} {fr lo : Nat} {x0 : Nat} {x1 : Int32} {x2 : Int32} {h : xH} {Q : Outcome → xH → Prop} (hq : bX11_node_54 G fr lo x0 x1 x2 h Q) : xP G YX11_node fr lo 54 [(0, rv x0), (1, .int x1), (2, .int x2)] [] h Q := by
  unfold bX11_node_54 at hq
  refine x_aload_n 0 dX11_node_54 rfl ?_
  obtain ⟨g1, hq⟩ := hq
  refine x_get (v := rv (fR h x0 2819)) fdX11_18 dX11_node_55 g1 rfl ?_
  refine x_iload_n 1 dX11_node_58 rfl ?_
  refine x_iload_n 2 dX11_node_59 rfl ?_
  obtain ⟨g2, hq⟩ := hq
  obtain ⟨i3, hq⟩ := hq
  obtain ⟨h4, e5⟩ : ∃ y, y = tI h (fR h x0 2819) (Int32.toNatClampNeg x1) x2 := ⟨_, rfl⟩
  replace hq := hq h4 e5
  refine x_iast' g2 i3 dX11_node_60 e5 ?_
  refine x_aload_n 0 dX11_node_61 rfl ?_
  have t6 : tg h4 x0 = 12 := by rw [e5]; exact g1
  refine x_get (v := rv (fR h4 x0 2821)) fdX11_24 dX11_node_62 t6 rfl ?_
  refine x_iload_n 1 dX11_node_65 rfl ?_
  refine x_dup2 dX11_node_66 rfl (rv_cat _) ?_
  obtain ⟨g7, hq⟩ := hq
  obtain ⟨i8, hq⟩ := hq
  refine x_iald 0 (Or.inl rfl) g7 i8 dX11_node_67 ?_
  refine x_iconst (v := 1) dX11_node_68 (by decide) ?_
  refine x_iadd dX11_node_69 ?_
  obtain ⟨i9, hq⟩ := hq
  obtain ⟨h10, e11⟩ : ∃ y, y = tI h4 (fR h4 x0 2821) (Int32.toNatClampNeg x1) ((aI h4 (fR h4 x0 2821) (Int32.toNatClampNeg x1)) + 1) := ⟨_, rfl⟩
  replace hq := hq h10 e11
  refine x_iast' g7 i9 dX11_node_70 e11 ?_
  refine x_aload_n 0 dX11_node_71 rfl ?_
  refine x_dup dX11_node_72 (rv_cat _) ?_
  have t12 : tg h10 x0 = 12 := by rw [e11]; exact t6
  refine x_get (v := .int (fI h10 x0 2831)) fdX11_63 dX11_node_73 t12 rfl ?_
  refine x_iconst (v := 1) dX11_node_76 (by decide) ?_
  refine x_iadd dX11_node_77 ?_
  obtain ⟨h13, e14⟩ : ∃ y, y = sI h10 x0 2831 ((fI h10 x0 2831) + 1) := ⟨_, rfl⟩
  replace hq := hq h13 e14
  refine x_putI fdX11_63 xty_I1 dX11_node_78 t12 (Or.inl (by rw [t12]; rfl)) xnI rfl e14 ?_
  refine x_iload_n 2 dX11_node_81 rfl ?_
  exact x_iret rfl rfl dX11_node_82 hq
set_option maxRecDepth 100000 in
def bX11_node (G : xG) (fr lo : Nat) (x0 : Nat) (x1 : Int32) (h : xH) (Q : Outcome → xH → Prop) : Prop := tg h x0 = 12 ∧ tg h (fR h x0 2825) = 100 ∧ vp_in (fI h x0 2830) (ln h (fR h x0 2825)) ∧ (∀ h4 : xH, h4 = sI h x0 2830 (aI h (fR h x0 2825) (Int32.toNatClampNeg (fI h x0 2830))) → tg h4 (fR h4 x0 2825) = 100 ∧ vp_in (fI h x0 2830) (ln h4 (fR h4 x0 2825)) ∧ (∀ h9 : xH, h9 = tI h4 (fR h4 x0 2825) (Int32.toNatClampNeg (fI h x0 2830)) (-1) → tg h9 (fR h9 x0 2818) = 100 ∧ vp_in x1 (ln h9 (fR h9 x0 2818)) ∧ ((¬ (aI h9 (fR h9 x0 2818) (Int32.toNatClampNeg x1)) = (-1) → tg h9 (fR h9 x0 2819) = 100 ∧ vp_in x1 (ln h9 (fR h9 x0 2819)) ∧ tg h9 (fR h9 x0 2825) = 100 ∧ vp_in (aI h9 (fR h9 x0 2819) (Int32.toNatClampNeg x1)) (ln h9 (fR h9 x0 2825)) ∧ (∀ h19 : xH, h19 = tI h9 (fR h9 x0 2825) (Int32.toNatClampNeg (aI h9 (fR h9 x0 2819) (Int32.toNatClampNeg x1))) (fI h x0 2830) → bX11_node_54 G fr lo x0 x1 (fI h x0 2830) h19 Q)) ∧ ((aI h9 (fR h9 x0 2818) (Int32.toNatClampNeg x1)) = (-1) → vp_in x1 (ln h9 (fR h9 x0 2818)) ∧ (∀ h22 : xH, h22 = tI h9 (fR h9 x0 2818) (Int32.toNatClampNeg x1) (fI h x0 2830) → bX11_node_54 G fr lo x0 x1 (fI h x0 2830) h22 Q)))))
set_option maxRecDepth 100000 in
theorem uX11_node {G : xG} {fr lo : Nat} {x0 : Nat} {x1 : Int32} {h : xH} {Q : Outcome → xH → Prop} (hq : bX11_node G fr lo x0 x1 h Q) : xP G YX11_node fr lo 0 [(0, rv x0), (1, .int x1)] [] h Q := by
  unfold bX11_node at hq
  refine x_aload_n 0 dX11_node_0 rfl ?_
  obtain ⟨g1, hq⟩ := hq
  refine x_get (v := .int (fI h x0 2830)) fdX11_59 dX11_node_1 g1 rfl ?_
  refine x_istore_n (lv' := [(2, .int (fI h x0 2830)), (0, rv x0), (1, .int x1)]) dX11_node_4 (by decide) rfl ?_
  refine x_aload_n 1 dX11_node_5 rfl ?_
  refine x_aload_n 1 dX11_node_6 rfl ?_
  refine x_get (v := rv (fR h x0 2825)) fdX11_38 dX11_node_7 g1 rfl ?_
  refine x_iload_n 0 dX11_node_10 rfl ?_
  obtain ⟨g2, hq⟩ := hq
  obtain ⟨i3, hq⟩ := hq
  refine x_iald 0 (Or.inl rfl) g2 i3 dX11_node_11 ?_
  obtain ⟨h4, e5⟩ : ∃ y, y = sI h x0 2830 (aI h (fR h x0 2825) (Int32.toNatClampNeg (fI h x0 2830))) := ⟨_, rfl⟩
  replace hq := hq h4 e5
  refine x_putI fdX11_59 xty_I1 dX11_node_12 g1 (Or.inl (by rw [g1]; rfl)) xnI rfl e5 ?_
  refine x_aload_n 1 dX11_node_15 rfl ?_
  have t6 : tg h4 x0 = 12 := by rw [e5]; exact g1
  refine x_get (v := rv (fR h4 x0 2825)) fdX11_38 dX11_node_16 t6 rfl ?_
  refine x_iload_n 0 dX11_node_19 rfl ?_
  refine x_iconst (v := (-1)) dX11_node_20 (by decide) ?_
  obtain ⟨g7, hq⟩ := hq
  obtain ⟨i8, hq⟩ := hq
  obtain ⟨h9, e10⟩ : ∃ y, y = tI h4 (fR h4 x0 2825) (Int32.toNatClampNeg (fI h x0 2830)) (-1) := ⟨_, rfl⟩
  replace hq := hq h9 e10
  refine x_iast' g7 i8 dX11_node_21 e10 ?_
  refine x_aload_n 1 dX11_node_22 rfl ?_
  have t11 : tg h9 x0 = 12 := by rw [e10]; exact t6
  refine x_get (v := rv (fR h9 x0 2818)) fdX11_15 dX11_node_23 t11 rfl ?_
  refine x_iload_n 2 dX11_node_26 rfl ?_
  obtain ⟨g12, hq⟩ := hq
  obtain ⟨i13, hq⟩ := hq
  refine x_iald 0 (Or.inl rfl) g12 i13 dX11_node_27 ?_
  refine x_iconst (v := (-1)) dX11_node_28 (by decide) ?_
  refine x_icmp_ne (tgt := 42) dX11_node_29 (by decide) (fun c14 => ?_) (fun c14 => ?_)
  · replace hq := hq.1 c14
    refine x_aload_n 1 dX11_node_42 rfl ?_
    refine x_get (v := rv (fR h9 x0 2825)) fdX11_38 dX11_node_43 t11 rfl ?_
    refine x_aload_n 1 dX11_node_46 rfl ?_
    refine x_get (v := rv (fR h9 x0 2819)) fdX11_18 dX11_node_47 t11 rfl ?_
    refine x_iload_n 2 dX11_node_50 rfl ?_
    obtain ⟨g15, hq⟩ := hq
    obtain ⟨i16, hq⟩ := hq
    refine x_iald 0 (Or.inl rfl) g15 i16 dX11_node_51 ?_
    refine x_iload_n 0 dX11_node_52 rfl ?_
    obtain ⟨g17, hq⟩ := hq
    obtain ⟨i18, hq⟩ := hq
    obtain ⟨h19, e20⟩ : ∃ y, y = tI h9 (fR h9 x0 2825) (Int32.toNatClampNeg (aI h9 (fR h9 x0 2819) (Int32.toNatClampNeg x1))) (fI h x0 2830) := ⟨_, rfl⟩
    replace hq := hq h19 e20
    refine x_iast' g17 i18 dX11_node_53 e20 ?_
    refine xP.pick (lv' := [(0, rv x0), (1, .int x1), (2, .int (fI h x0 2830))]) [1, 2, 0] rfl ?_
    exact uX11_node_54 hq
  · replace hq := hq.2 c14
    refine x_aload_n 1 dX11_node_32 rfl ?_
    refine x_get (v := rv (fR h9 x0 2818)) fdX11_15 dX11_node_33 t11 rfl ?_
    refine x_iload_n 2 dX11_node_36 rfl ?_
    refine x_iload_n 0 dX11_node_37 rfl ?_
    obtain ⟨i21, hq⟩ := hq
    obtain ⟨h22, e23⟩ : ∃ y, y = tI h9 (fR h9 x0 2818) (Int32.toNatClampNeg x1) (fI h x0 2830) := ⟨_, rfl⟩
    replace hq := hq h22 e23
    refine x_iast' g12 i21 dX11_node_38 e23 ?_
    refine x_goto (tgt := 54) dX11_node_39 (by decide) ?_
    refine xP.pick (lv' := [(0, rv x0), (1, .int x1), (2, .int (fI h x0 2830))]) [1, 2, 0] rfl ?_
    exact uX11_node_54 hq
theorem rX11_node {G : xG} {fr lo : Nat} {x0 : Nat} {x1 : Int32} {h : xH} {Q : Outcome → xH → Prop} (hq : bX11_node G fr lo x0 x1 h Q) : xR G YX11_node fr lo [rv x0, .int x1] h Q := by
  show xP _ _ _ _ _ (lv_args 0 _) _ _ _
  rw [show lv_args 0 [rv x0, .int x1] = [(0, rv x0), (1, .int x1)] from (xla1 (rv_cat _) (xla1 rfl xla0))]
  exact uX11_node hq
set_option maxRecDepth 100000 in
theorem dX11_reset_0 : decode cX11_reset 0 = .ok (.aload_n 0, 1) := by decide +kernel
set_option maxRecDepth 100000 in
theorem dX11_reset_1 : decode cX11_reset 1 = .ok (.getfield 30, 3) := by decide +kernel
set_option maxRecDepth 100000 in
theorem dX11_reset_4 : decode cX11_reset 4 = .ok (.iload_n 1, 1) := by decide +kernel
set_option maxRecDepth 100000 in
theorem dX11_reset_5 : decode cX11_reset 5 = .ok (.baload, 1) := by decide +kernel
set_option maxRecDepth 100000 in
theorem dX11_reset_6 : decode cX11_reset 6 = .ok (.ifCond .eq 38, 3) := by decide +kernel
set_option maxRecDepth 100000 in
theorem dX11_reset_9 : decode cX11_reset 9 = .ok (.aload_n 0, 1) := by decide +kernel
set_option maxRecDepth 100000 in
theorem dX11_reset_10 : decode cX11_reset 10 = .ok (.getfield 18, 3) := by decide +kernel
set_option maxRecDepth 100000 in
theorem dX11_reset_13 : decode cX11_reset 13 = .ok (.iload_n 1, 1) := by decide +kernel
set_option maxRecDepth 100000 in
theorem dX11_reset_14 : decode cX11_reset 14 = .ok (.iaload, 1) := by decide +kernel
set_option maxRecDepth 100000 in
theorem dX11_reset_15 : decode cX11_reset 15 = .ok (.iconst (-1), 1) := by decide +kernel
set_option maxRecDepth 100000 in
theorem dX11_reset_16 : decode cX11_reset 16 = .ok (.if_icmp .eq 28, 3) := by decide +kernel
set_option maxRecDepth 100000 in
theorem dX11_reset_19 : decode cX11_reset 19 = .ok (.aload_n 0, 1) := by decide +kernel
set_option maxRecDepth 100000 in
theorem dX11_reset_20 : decode cX11_reset 20 = .ok (.getfield 41, 3) := by decide +kernel
set_option maxRecDepth 100000 in
theorem dX11_reset_23 : decode cX11_reset 23 = .ok (.aload_n 0, 1) := by decide +kernel
set_option maxRecDepth 100000 in
theorem dX11_reset_24 : decode cX11_reset 24 = .ok (.getfield 18, 3) := by decide +kernel
set_option maxRecDepth 100000 in
theorem dX11_reset_27 : decode cX11_reset 27 = .ok (.iload_n 1, 1) := by decide +kernel
set_option maxRecDepth 100000 in
theorem dX11_reset_28 : decode cX11_reset 28 = .ok (.iaload, 1) := by decide +kernel
set_option maxRecDepth 100000 in
theorem dX11_reset_29 : decode cX11_reset 29 = .ok (.laload, 1) := by decide +kernel
set_option maxRecDepth 100000 in
theorem dX11_reset_30 : decode cX11_reset 30 = .ok (.ldc2_w 92, 3) := by decide +kernel
set_option maxRecDepth 100000 in
theorem dX11_reset_33 : decode cX11_reset 33 = .ok (.lcmp, 1) := by decide +kernel
set_option maxRecDepth 100000 in
theorem dX11_reset_34 : decode cX11_reset 34 = .ok (.ifCond .eq 10, 3) := by decide +kernel
set_option maxRecDepth 100000 in
theorem dX11_reset_37 : decode cX11_reset 37 = .ok (.aload_n 0, 1) := by decide +kernel
set_option maxRecDepth 100000 in
theorem dX11_reset_38 : decode cX11_reset 38 = .ok (.iload_n 1, 1) := by decide +kernel
set_option maxRecDepth 100000 in
theorem dX11_reset_39 : decode cX11_reset 39 = .ok (.bipush 10, 2) := by decide +kernel
set_option maxRecDepth 100000 in
theorem dX11_reset_41 : decode cX11_reset 41 = .ok (.invokevirtual 96, 3) := by decide +kernel
set_option maxRecDepth 100000 in
theorem dX11_reset_44 : decode cX11_reset 44 = .ok (.aload_n 0, 1) := by decide +kernel
set_option maxRecDepth 100000 in
theorem dX11_reset_45 : decode cX11_reset 45 = .ok (.getfield 9, 3) := by decide +kernel
set_option maxRecDepth 100000 in
theorem dX11_reset_48 : decode cX11_reset 48 = .ok (.iload_n 1, 1) := by decide +kernel
set_option maxRecDepth 100000 in
theorem dX11_reset_49 : decode cX11_reset 49 = .ok (.iconst 1, 1) := by decide +kernel
set_option maxRecDepth 100000 in
theorem dX11_reset_50 : decode cX11_reset 50 = .ok (.iastore, 1) := by decide +kernel
set_option maxRecDepth 100000 in
theorem dX11_reset_51 : decode cX11_reset 51 = .ok (.aload_n 0, 1) := by decide +kernel
set_option maxRecDepth 100000 in
theorem dX11_reset_52 : decode cX11_reset 52 = .ok (.getfield 21, 3) := by decide +kernel
set_option maxRecDepth 100000 in
theorem dX11_reset_55 : decode cX11_reset 55 = .ok (.iload_n 1, 1) := by decide +kernel
set_option maxRecDepth 100000 in
theorem dX11_reset_56 : decode cX11_reset 56 = .ok (.aload_n 0, 1) := by decide +kernel
set_option maxRecDepth 100000 in
theorem dX11_reset_57 : decode cX11_reset 57 = .ok (.getfield 15, 3) := by decide +kernel
set_option maxRecDepth 100000 in
theorem dX11_reset_60 : decode cX11_reset 60 = .ok (.iload_n 1, 1) := by decide +kernel
set_option maxRecDepth 100000 in
theorem dX11_reset_61 : decode cX11_reset 61 = .ok (.iaload, 1) := by decide +kernel
set_option maxRecDepth 100000 in
theorem dX11_reset_62 : decode cX11_reset 62 = .ok (.iastore, 1) := by decide +kernel
set_option maxRecDepth 100000 in
theorem dX11_reset_63 : decode cX11_reset 63 = .ok (.aload_n 0, 1) := by decide +kernel
set_option maxRecDepth 100000 in
theorem dX11_reset_64 : decode cX11_reset 64 = .ok (.iload_n 1, 1) := by decide +kernel
set_option maxRecDepth 100000 in
theorem dX11_reset_65 : decode cX11_reset 65 = .ok (.iload_n 2, 1) := by decide +kernel
set_option maxRecDepth 100000 in
theorem dX11_reset_66 : decode cX11_reset 66 = .ok (.invokevirtual 99, 3) := by decide +kernel
set_option maxRecDepth 100000 in
theorem dX11_reset_69 : decode cX11_reset 69 = .ok (.return_, 1) := by decide +kernel
set_option maxRecDepth 100000 in
def bX11_reset_44 (G : xG) (fr lo : Nat) (x0 : Nat) (x1 : Int32) (x2 : Int32) (h : xH) (Q : Outcome → xH → Prop) : Prop := tg h x0 = 12 ∧ tg h (fR h x0 2817) = 100 ∧ vp_in x1 (ln h (fR h x0 2817)) ∧ (∀ h4 : xH, h4 = tI h (fR h x0 2817) (Int32.toNatClampNeg x1) 1 → tg h4 (fR h4 x0 2818) = 100 ∧ vp_in x1 (ln h4 (fR h4 x0 2818)) ∧ tg h4 (fR h4 x0 2820) = 100 ∧ vp_in x1 (ln h4 (fR h4 x0 2820)) ∧ (∀ h11 : xH, h11 = tI h4 (fR h4 x0 2820) (Int32.toNatClampNeg x1) (aI h4 (fR h4 x0 2818) (Int32.toNatClampNeg x1)) → 1 ≤ fr ∧ 17 ≤ lo ∧ xRv G YX11_bring (fr - 1) (lo - 17) [rv x0, .int x1, .int x2] h11 (fun h16 => xext h11 h16 → Q (.returned none) h16) (fun r h2 => Q (.threw r) h2)))
set_option maxRecDepth 100000 in
theorem uX11_reset_44 {G : xG} {fr lo : Nat} {x0 : Nat} {x1 : Int32} {x2 : Int32} {h : xH} {Q : Outcome → xH → Prop} (hq : bX11_reset_44 G fr lo x0 x1 x2 h Q) : xP G YX11_reset fr lo 44 [(0, rv x0), (1, .int x1), (2, .int x2)] [] h Q := by
  unfold bX11_reset_44 at hq
  refine x_aload_n 0 dX11_reset_44 rfl ?_
  obtain ⟨g1, hq⟩ := hq
  refine x_get (v := rv (fR h x0 2817)) fdX11_9 dX11_reset_45 g1 rfl ?_
  refine x_iload_n 1 dX11_reset_48 rfl ?_
  refine x_iconst (v := 1) dX11_reset_49 (by decide) ?_
  obtain ⟨g2, hq⟩ := hq
  obtain ⟨i3, hq⟩ := hq
  obtain ⟨h4, e5⟩ : ∃ y, y = tI h (fR h x0 2817) (Int32.toNatClampNeg x1) 1 := ⟨_, rfl⟩
  replace hq := hq h4 e5
  refine x_iast' g2 i3 dX11_reset_50 e5 ?_
  refine x_aload_n 0 dX11_reset_51 rfl ?_
  have t6 : tg h4 x0 = 12 := by rw [e5]; exact g1
  refine x_get (v := rv (fR h4 x0 2820)) fdX11_21 dX11_reset_52 t6 rfl ?_
  refine x_iload_n 1 dX11_reset_55 rfl ?_
  refine x_aload_n 0 dX11_reset_56 rfl ?_
  refine x_get (v := rv (fR h4 x0 2818)) fdX11_15 dX11_reset_57 t6 rfl ?_
  refine x_iload_n 1 dX11_reset_60 rfl ?_
  obtain ⟨g7, hq⟩ := hq
  obtain ⟨i8, hq⟩ := hq
  refine x_iald 0 (Or.inl rfl) g7 i8 dX11_reset_61 ?_
  obtain ⟨g9, hq⟩ := hq
  obtain ⟨i10, hq⟩ := hq
  obtain ⟨h11, e12⟩ : ∃ y, y = tI h4 (fR h4 x0 2820) (Int32.toNatClampNeg x1) (aI h4 (fR h4 x0 2818) (Int32.toNatClampNeg x1)) := ⟨_, rfl⟩
  replace hq := hq h11 e12
  refine x_iast' g9 i10 dX11_reset_62 e12 ?_
  refine x_aload_n 0 dX11_reset_63 rfl ?_
  refine x_iload_n 1 dX11_reset_64 rfl ?_
  refine x_iload_n 2 dX11_reset_65 rfl ?_
  have t13 : tg h11 x0 = 12 := by rw [e12]; exact t6
  obtain ⟨g14, g15, hq⟩ := hq
  refine x_callV (Yc := YX11_bring) (as := [.int x1, .int x2]) (st := []) q2873 mvX11_bring t13 rfl dX11_reset_66 (xle (xal1 (rv_cat _) (xal1 rfl (xal1 rfl xal0))) (by decide)) (xfr g14) (xlo xsw0 (by decide) g15) (xKv hq (fun h16 hq e18 => ?_) (fun _ _ q _ => q))
  replace hq := hq e18
  exact x_vret rfl dX11_reset_69 hq
set_option maxRecDepth 100000 in
def bX11_reset (G : xG) (fr lo : Nat) (x0 : Nat) (x1 : Int32) (x2 : Int32) (h : xH) (Q : Outcome → xH → Prop) : Prop := tg h x0 = 12 ∧ tg h (fR h x0 2823) = 104 ∧ vp_in x1 (ln h (fR h x0 2823)) ∧ (((aI h (fR h x0 2823) (Int32.toNatClampNeg x1)) = 0 → bX11_reset_44 G fr lo x0 x1 x2 h Q) ∧ (¬ (aI h (fR h x0 2823) (Int32.toNatClampNeg x1)) = 0 → tg h (fR h x0 2819) = 100 ∧ vp_in x1 (ln h (fR h x0 2819)) ∧ (((aI h (fR h x0 2819) (Int32.toNatClampNeg x1)) = (-1) → bX11_reset_44 G fr lo x0 x1 x2 h Q) ∧ (¬ (aI h (fR h x0 2819) (Int32.toNatClampNeg x1)) = (-1) → vp_in x1 (ln h (fR h x0 2819)) ∧ tg h (fR h x0 2826) = 101 ∧ vp_in (aI h (fR h x0 2819) (Int32.toNatClampNeg x1)) (ln h (fR h x0 2826)) ∧ (((lg_cmp (aJ h (fR h x0 2826) (Int32.toNatClampNeg (aI h (fR h x0 2819) (Int32.toNatClampNeg x1)))) 10) = 0 → bX11_reset_44 G fr lo x0 x1 x2 h Q) ∧ (¬ (lg_cmp (aJ h (fR h x0 2826) (Int32.toNatClampNeg (aI h (fR h x0 2819) (Int32.toNatClampNeg x1)))) 10) = 0 → 1 ≤ fr ∧ 15 ≤ lo ∧ xRv G YX11_add (fr - 1) (lo - 15) [rv x0, .int x1, .int 10] h (fun h14 => xext h h14 → bX11_reset_44 G fr lo x0 x1 x2 h14 Q) (fun r h2 => Q (.threw r) h2)))))))
set_option maxRecDepth 100000 in
theorem uX11_reset {G : xG} {fr lo : Nat} {x0 : Nat} {x1 : Int32} {x2 : Int32} {h : xH} {Q : Outcome → xH → Prop} (hq : bX11_reset G fr lo x0 x1 x2 h Q) : xP G YX11_reset fr lo 0 [(0, rv x0), (1, .int x1), (2, .int x2)] [] h Q := by
  unfold bX11_reset at hq
  refine x_aload_n 0 dX11_reset_0 rfl ?_
  obtain ⟨g1, hq⟩ := hq
  refine x_get (v := rv (fR h x0 2823)) fdX11_30 dX11_reset_1 g1 rfl ?_
  refine x_iload_n 1 dX11_reset_4 rfl ?_
  obtain ⟨g2, hq⟩ := hq
  obtain ⟨i3, hq⟩ := hq
  refine x_zald g2 i3 dX11_reset_5 ?_
  refine x_if_eq (tgt := 44) dX11_reset_6 (by decide) (fun c4 => ?_) (fun c4 => ?_)
  · replace hq := hq.1 c4
    exact uX11_reset_44 hq
  · replace hq := hq.2 c4
    refine x_aload_n 0 dX11_reset_9 rfl ?_
    refine x_get (v := rv (fR h x0 2819)) fdX11_18 dX11_reset_10 g1 rfl ?_
    refine x_iload_n 1 dX11_reset_13 rfl ?_
    obtain ⟨g5, hq⟩ := hq
    obtain ⟨i6, hq⟩ := hq
    refine x_iald 0 (Or.inl rfl) g5 i6 dX11_reset_14 ?_
    refine x_iconst (v := (-1)) dX11_reset_15 (by decide) ?_
    refine x_icmp_eq (tgt := 44) dX11_reset_16 (by decide) (fun c7 => ?_) (fun c7 => ?_)
    · replace hq := hq.1 c7
      exact uX11_reset_44 hq
    · replace hq := hq.2 c7
      refine x_aload_n 0 dX11_reset_19 rfl ?_
      refine x_get (v := rv (fR h x0 2826)) fdX11_41 dX11_reset_20 g1 rfl ?_
      refine x_aload_n 0 dX11_reset_23 rfl ?_
      refine x_get (v := rv (fR h x0 2819)) fdX11_18 dX11_reset_24 g1 rfl ?_
      refine x_iload_n 1 dX11_reset_27 rfl ?_
      obtain ⟨i8, hq⟩ := hq
      refine x_iald 0 (Or.inl rfl) g5 i8 dX11_reset_28 ?_
      obtain ⟨g9, hq⟩ := hq
      obtain ⟨i10, hq⟩ := hq
      refine x_lald g9 i10 dX11_reset_29 ?_
      refine x_ldc2 (v := 10) q2871 dX11_reset_30 ?_
      refine x_lcmp dX11_reset_33 ?_
      refine x_if_eq (tgt := 44) dX11_reset_34 (by decide) (fun c11 => ?_) (fun c11 => ?_)
      · replace hq := hq.1 c11
        exact uX11_reset_44 hq
      · replace hq := hq.2 c11
        refine x_aload_n 0 dX11_reset_37 rfl ?_
        refine x_iload_n 1 dX11_reset_38 rfl ?_
        refine x_bipush (v := 10) dX11_reset_39 (by decide) ?_
        obtain ⟨g12, g13, hq⟩ := hq
        refine x_callV (Yc := YX11_add) (as := [.int x1, .int 10]) (st := []) q2872 mvX11_add g1 rfl dX11_reset_41 (xle (xal1 (rv_cat _) (xal1 rfl (xal1 rfl xal0))) (by decide)) (xfr g12) (xlo xsw0 (by decide) g13) (xKv hq (fun h14 hq e16 => ?_) (fun _ _ q _ => q))
        replace hq := hq e16
        exact uX11_reset_44 hq
theorem rX11_reset {G : xG} {fr lo : Nat} {x0 : Nat} {x1 : Int32} {x2 : Int32} {h : xH} {Q : Outcome → xH → Prop} (hq : bX11_reset G fr lo x0 x1 x2 h Q) : xR G YX11_reset fr lo [rv x0, .int x1, .int x2] h Q := by
  show xP _ _ _ _ _ (lv_args 0 _) _ _ _
  rw [show lv_args 0 [rv x0, .int x1, .int x2] = [(0, rv x0), (1, .int x1), (2, .int x2)] from (xla1 (rv_cat _) (xla1 rfl (xla1 rfl xla0)))]
  exact uX11_reset hq
set_option maxRecDepth 100000 in
theorem dX11_bring_0 : decode cX11_bring 0 = .ok (.aload_n 0, 1) := by decide +kernel
set_option maxRecDepth 100000 in
theorem dX11_bring_1 : decode cX11_bring 1 = .ok (.getfield 55, 3) := by decide +kernel
set_option maxRecDepth 100000 in
theorem dX11_bring_4 : decode cX11_bring 4 = .ok (.iload_n 1, 1) := by decide +kernel
set_option maxRecDepth 100000 in
theorem dX11_bring_5 : decode cX11_bring 5 = .ok (.iconst 1, 1) := by decide +kernel
set_option maxRecDepth 100000 in
theorem dX11_bring_6 : decode cX11_bring 6 = .ok (.iadd, 1) := by decide +kernel
set_option maxRecDepth 100000 in
theorem dX11_bring_7 : decode cX11_bring 7 = .ok (.iload_n 1, 1) := by decide +kernel
set_option maxRecDepth 100000 in
theorem dX11_bring_8 : decode cX11_bring 8 = .ok (.iconst 1, 1) := by decide +kernel
set_option maxRecDepth 100000 in
theorem dX11_bring_9 : decode cX11_bring 9 = .ok (.iadd, 1) := by decide +kernel
set_option maxRecDepth 100000 in
theorem dX11_bring_10 : decode cX11_bring 10 = .ok (.iload_n 2, 1) := by decide +kernel
set_option maxRecDepth 100000 in
theorem dX11_bring_11 : decode cX11_bring 11 = .ok (.iadd, 1) := by decide +kernel
set_option maxRecDepth 100000 in
theorem dX11_bring_12 : decode cX11_bring 12 = .ok (.invokevirtual 88, 3) := by decide +kernel
set_option maxRecDepth 100000 in
theorem dX11_bring_15 : decode cX11_bring 15 = .ok (.aload_n 0, 1) := by decide +kernel
set_option maxRecDepth 100000 in
theorem dX11_bring_16 : decode cX11_bring 16 = .ok (.getfield 9, 3) := by decide +kernel
set_option maxRecDepth 100000 in
theorem dX11_bring_19 : decode cX11_bring 19 = .ok (.iload_n 1, 1) := by decide +kernel
set_option maxRecDepth 100000 in
theorem dX11_bring_20 : decode cX11_bring 20 = .ok (.iaload, 1) := by decide +kernel
set_option maxRecDepth 100000 in
theorem dX11_bring_21 : decode cX11_bring 21 = .ok (.iconst 1, 1) := by decide +kernel
set_option maxRecDepth 100000 in
theorem dX11_bring_22 : decode cX11_bring 22 = .ok (.if_icmp .ne 13, 3) := by decide +kernel
set_option maxRecDepth 100000 in
theorem dX11_bring_25 : decode cX11_bring 25 = .ok (.aload_n 0, 1) := by decide +kernel
set_option maxRecDepth 100000 in
theorem dX11_bring_26 : decode cX11_bring 26 = .ok (.getfield 21, 3) := by decide +kernel
set_option maxRecDepth 100000 in
theorem dX11_bring_29 : decode cX11_bring 29 = .ok (.iload_n 1, 1) := by decide +kernel
set_option maxRecDepth 100000 in
theorem dX11_bring_30 : decode cX11_bring 30 = .ok (.iaload, 1) := by decide +kernel
set_option maxRecDepth 100000 in
theorem dX11_bring_31 : decode cX11_bring 31 = .ok (.iconst (-1), 1) := by decide +kernel
set_option maxRecDepth 100000 in
theorem dX11_bring_32 : decode cX11_bring 32 = .ok (.if_icmp .ne 4, 3) := by decide +kernel
set_option maxRecDepth 100000 in
theorem dX11_bring_35 : decode cX11_bring 35 = .ok (.return_, 1) := by decide +kernel
set_option maxRecDepth 100000 in
theorem dX11_bring_36 : decode cX11_bring 36 = .ok (.aload_n 0, 1) := by decide +kernel
set_option maxRecDepth 100000 in
theorem dX11_bring_37 : decode cX11_bring 37 = .ok (.getfield 21, 3) := by decide +kernel
set_option maxRecDepth 100000 in
theorem dX11_bring_40 : decode cX11_bring 40 = .ok (.iload_n 1, 1) := by decide +kernel
set_option maxRecDepth 100000 in
theorem dX11_bring_41 : decode cX11_bring 41 = .ok (.iaload, 1) := by decide +kernel
set_option maxRecDepth 100000 in
theorem dX11_bring_42 : decode cX11_bring 42 = .ok (.istore_n 3, 1) := by decide +kernel
set_option maxRecDepth 100000 in
theorem dX11_bring_43 : decode cX11_bring 43 = .ok (.iconst 0, 1) := by decide +kernel
set_option maxRecDepth 100000 in
theorem dX11_bring_44 : decode cX11_bring 44 = .ok (.istore 4, 2) := by decide +kernel
set_option maxRecDepth 100000 in
theorem dX11_bring_46 : decode cX11_bring 46 = .ok (.iload 4, 2) := by decide +kernel
set_option maxRecDepth 100000 in
theorem dX11_bring_48 : decode cX11_bring 48 = .ok (.iload_n 2, 1) := by decide +kernel
set_option maxRecDepth 100000 in
theorem dX11_bring_49 : decode cX11_bring 49 = .ok (.if_icmp .ge 116, 3) := by decide +kernel
set_option maxRecDepth 100000 in
theorem dX11_bring_52 : decode cX11_bring 52 = .ok (.iload_n 1, 1) := by decide +kernel
set_option maxRecDepth 100000 in
theorem dX11_bring_53 : decode cX11_bring 53 = .ok (.iconst 1, 1) := by decide +kernel
set_option maxRecDepth 100000 in
theorem dX11_bring_54 : decode cX11_bring 54 = .ok (.iadd, 1) := by decide +kernel
set_option maxRecDepth 100000 in
theorem dX11_bring_55 : decode cX11_bring 55 = .ok (.iload 4, 2) := by decide +kernel
set_option maxRecDepth 100000 in
theorem dX11_bring_57 : decode cX11_bring 57 = .ok (.iadd, 1) := by decide +kernel
set_option maxRecDepth 100000 in
theorem dX11_bring_58 : decode cX11_bring 58 = .ok (.istore 5, 2) := by decide +kernel
set_option maxRecDepth 100000 in
theorem dX11_bring_60 : decode cX11_bring 60 = .ok (.aload_n 0, 1) := by decide +kernel
set_option maxRecDepth 100000 in
theorem dX11_bring_61 : decode cX11_bring 61 = .ok (.getfield 55, 3) := by decide +kernel
set_option maxRecDepth 100000 in
theorem dX11_bring_64 : decode cX11_bring 64 = .ok (.getfield 82, 3) := by decide +kernel
set_option maxRecDepth 100000 in
theorem dX11_bring_67 : decode cX11_bring 67 = .ok (.iload 5, 2) := by decide +kernel
set_option maxRecDepth 100000 in
theorem dX11_bring_69 : decode cX11_bring 69 = .ok (.aload_n 0, 1) := by decide +kernel
set_option maxRecDepth 100000 in
theorem dX11_bring_70 : decode cX11_bring 70 = .ok (.getfield 30, 3) := by decide +kernel
set_option maxRecDepth 100000 in
theorem dX11_bring_73 : decode cX11_bring 73 = .ok (.iload_n 1, 1) := by decide +kernel
set_option maxRecDepth 100000 in
theorem dX11_bring_74 : decode cX11_bring 74 = .ok (.baload, 1) := by decide +kernel
set_option maxRecDepth 100000 in
theorem dX11_bring_75 : decode cX11_bring 75 = .ok (.ifCond .eq 22, 3) := by decide +kernel
set_option maxRecDepth 100000 in
theorem dX11_bring_78 : decode cX11_bring 78 = .ok (.aload_n 0, 1) := by decide +kernel
set_option maxRecDepth 100000 in
theorem dX11_bring_79 : decode cX11_bring 79 = .ok (.getfield 41, 3) := by decide +kernel
set_option maxRecDepth 100000 in
theorem dX11_bring_82 : decode cX11_bring 82 = .ok (.iload_n 3, 1) := by decide +kernel
set_option maxRecDepth 100000 in
theorem dX11_bring_83 : decode cX11_bring 83 = .ok (.laload, 1) := by decide +kernel
set_option maxRecDepth 100000 in
theorem dX11_bring_84 : decode cX11_bring 84 = .ok (.ldc2_w 92, 3) := by decide +kernel
set_option maxRecDepth 100000 in
theorem dX11_bring_87 : decode cX11_bring 87 = .ok (.lcmp, 1) := by decide +kernel
set_option maxRecDepth 100000 in
theorem dX11_bring_88 : decode cX11_bring 88 = .ok (.ifCond .ne 9, 3) := by decide +kernel
set_option maxRecDepth 100000 in
theorem dX11_bring_91 : decode cX11_bring 91 = .ok (.ldc2_w 94, 3) := by decide +kernel
set_option maxRecDepth 100000 in
theorem dX11_bring_94 : decode cX11_bring 94 = .ok (.goto 9, 3) := by decide +kernel
set_option maxRecDepth 100000 in
theorem dX11_bring_97 : decode cX11_bring 97 = .ok (.aload_n 0, 1) := by decide +kernel
set_option maxRecDepth 100000 in
theorem dX11_bring_98 : decode cX11_bring 98 = .ok (.getfield 41, 3) := by decide +kernel
set_option maxRecDepth 100000 in
theorem dX11_bring_101 : decode cX11_bring 101 = .ok (.iload_n 3, 1) := by decide +kernel
set_option maxRecDepth 100000 in
theorem dX11_bring_102 : decode cX11_bring 102 = .ok (.laload, 1) := by decide +kernel
set_option maxRecDepth 100000 in
theorem dX11_bring_103 : decode cX11_bring 103 = .ok (.lastore, 1) := by decide +kernel
set_option maxRecDepth 100000 in
theorem dX11_bring_104 : decode cX11_bring 104 = .ok (.aload_n 0, 1) := by decide +kernel
set_option maxRecDepth 100000 in
theorem dX11_bring_105 : decode cX11_bring 105 = .ok (.getfield 55, 3) := by decide +kernel
set_option maxRecDepth 100000 in
theorem dX11_bring_108 : decode cX11_bring 108 = .ok (.getfield 85, 3) := by decide +kernel
set_option maxRecDepth 100000 in
theorem dX11_bring_111 : decode cX11_bring 111 = .ok (.iload 5, 2) := by decide +kernel
set_option maxRecDepth 100000 in
theorem dX11_bring_113 : decode cX11_bring 113 = .ok (.aload_n 0, 1) := by decide +kernel
set_option maxRecDepth 100000 in
theorem dX11_bring_114 : decode cX11_bring 114 = .ok (.getfield 45, 3) := by decide +kernel
set_option maxRecDepth 100000 in
theorem dX11_bring_117 : decode cX11_bring 117 = .ok (.iload_n 3, 1) := by decide +kernel
set_option maxRecDepth 100000 in
theorem dX11_bring_118 : decode cX11_bring 118 = .ok (.laload, 1) := by decide +kernel
set_option maxRecDepth 100000 in
theorem dX11_bring_119 : decode cX11_bring 119 = .ok (.lastore, 1) := by decide +kernel
set_option maxRecDepth 100000 in
theorem dX11_bring_120 : decode cX11_bring 120 = .ok (.aload_n 0, 1) := by decide +kernel
set_option maxRecDepth 100000 in
theorem dX11_bring_121 : decode cX11_bring 121 = .ok (.getfield 55, 3) := by decide +kernel
set_option maxRecDepth 100000 in
theorem dX11_bring_124 : decode cX11_bring 124 = .ok (.getfield 86, 3) := by decide +kernel
set_option maxRecDepth 100000 in
theorem dX11_bring_127 : decode cX11_bring 127 = .ok (.iload 5, 2) := by decide +kernel
set_option maxRecDepth 100000 in
theorem dX11_bring_129 : decode cX11_bring 129 = .ok (.aload_n 0, 1) := by decide +kernel
set_option maxRecDepth 100000 in
theorem dX11_bring_130 : decode cX11_bring 130 = .ok (.getfield 48, 3) := by decide +kernel
set_option maxRecDepth 100000 in
theorem dX11_bring_133 : decode cX11_bring 133 = .ok (.iload_n 3, 1) := by decide +kernel
set_option maxRecDepth 100000 in
theorem dX11_bring_134 : decode cX11_bring 134 = .ok (.daload, 1) := by decide +kernel
set_option maxRecDepth 100000 in
theorem dX11_bring_135 : decode cX11_bring 135 = .ok (.dastore, 1) := by decide +kernel
set_option maxRecDepth 100000 in
theorem dX11_bring_136 : decode cX11_bring 136 = .ok (.aload_n 0, 1) := by decide +kernel
set_option maxRecDepth 100000 in
theorem dX11_bring_137 : decode cX11_bring 137 = .ok (.getfield 55, 3) := by decide +kernel
set_option maxRecDepth 100000 in
theorem dX11_bring_140 : decode cX11_bring 140 = .ok (.getfield 87, 3) := by decide +kernel
set_option maxRecDepth 100000 in
theorem dX11_bring_143 : decode cX11_bring 143 = .ok (.iload 5, 2) := by decide +kernel
set_option maxRecDepth 100000 in
theorem dX11_bring_145 : decode cX11_bring 145 = .ok (.aload_n 0, 1) := by decide +kernel
set_option maxRecDepth 100000 in
theorem dX11_bring_146 : decode cX11_bring 146 = .ok (.getfield 52, 3) := by decide +kernel
set_option maxRecDepth 100000 in
theorem dX11_bring_149 : decode cX11_bring 149 = .ok (.iload_n 3, 1) := by decide +kernel
set_option maxRecDepth 100000 in
theorem dX11_bring_150 : decode cX11_bring 150 = .ok (.baload, 1) := by decide +kernel
set_option maxRecDepth 100000 in
theorem dX11_bring_151 : decode cX11_bring 151 = .ok (.bastore, 1) := by decide +kernel
set_option maxRecDepth 100000 in
theorem dX11_bring_152 : decode cX11_bring 152 = .ok (.aload_n 0, 1) := by decide +kernel
set_option maxRecDepth 100000 in
theorem dX11_bring_153 : decode cX11_bring 153 = .ok (.getfield 38, 3) := by decide +kernel
set_option maxRecDepth 100000 in
theorem dX11_bring_156 : decode cX11_bring 156 = .ok (.iload_n 3, 1) := by decide +kernel
set_option maxRecDepth 100000 in
theorem dX11_bring_157 : decode cX11_bring 157 = .ok (.iaload, 1) := by decide +kernel
set_option maxRecDepth 100000 in
theorem dX11_bring_158 : decode cX11_bring 158 = .ok (.istore_n 3, 1) := by decide +kernel
set_option maxRecDepth 100000 in
theorem dX11_bring_159 : decode cX11_bring 159 = .ok (.iinc 4 1, 3) := by decide +kernel
set_option maxRecDepth 100000 in
theorem dX11_bring_162 : decode cX11_bring 162 = .ok (.goto (-116), 3) := by decide +kernel
set_option maxRecDepth 100000 in
theorem dX11_bring_165 : decode cX11_bring 165 = .ok (.return_, 1) := by decide +kernel
def lX11_bring_46 (G : xG) (fr lo : Nat) (x0 : Nat) (x1 : Int32) (x2 : Int32) (x3 : Int32) (x4 : Int32) (h : xH) (Q : Outcome → xH → Prop) : Prop := xP G YX11_bring fr lo 46 [(0, rv x0), (1, .int x1), (2, .int x2), (3, .int x3), (4, .int x4)] [] h Q
set_option maxRecDepth 100000 in
def bX11_bring_103 (G : xG) (fr lo : Nat) (x0 : Nat) (x1 : Int32) (x2 : Int32) (x3 : Int32) (x4 : Int32) (x5 : Int32) (s0 : Int64) (s1 : Int32) (s2 : Nat) (h : xH) (Q : Outcome → xH → Prop) : Prop := tg h s2 = 101 ∧ vp_in s1 (ln h s2) ∧ (∀ h3 : xH, h3 = tJ h s2 (Int32.toNatClampNeg s1) s0 → tg h3 x0 = 12 ∧ tg h3 (fR h3 x0 2816) = 11 ∧ tg h3 (fR h3 x0 2827) = 101 ∧ vp_in x3 (ln h3 (fR h3 x0 2827)) ∧ tg h3 (fR h3 (fR h3 x0 2816) 2561) = 101 ∧ vp_in x5 (ln h3 (fR h3 (fR h3 x0 2816) 2561)) ∧ (∀ h11 : xH, h11 = tJ h3 (fR h3 (fR h3 x0 2816) 2561) (Int32.toNatClampNeg x5) (aJ h3 (fR h3 x0 2827) (Int32.toNatClampNeg x3)) → tg h11 (fR h11 x0 2816) = 11 ∧ tg h11 (fR h11 x0 2828) = 102 ∧ vp_in x3 (ln h11 (fR h11 x0 2828)) ∧ tg h11 (fR h11 (fR h11 x0 2816) 2562) = 102 ∧ vp_in x5 (ln h11 (fR h11 (fR h11 x0 2816) 2562)) ∧ (∀ h19 : xH, h19 = tD h11 (fR h11 (fR h11 x0 2816) 2562) (Int32.toNatClampNeg x5) (aD h11 (fR h11 x0 2828) (Int32.toNatClampNeg x3)) → tg h19 (fR h19 x0 2816) = 11 ∧ tg h19 (fR h19 x0 2829) = 104 ∧ vp_in x3 (ln h19 (fR h19 x0 2829)) ∧ tg h19 (fR h19 (fR h19 x0 2816) 2563) = 104 ∧ vp_in x5 (ln h19 (fR h19 (fR h19 x0 2816) 2563)) ∧ (∀ h27 : xH, h27 = tI h19 (fR h19 (fR h19 x0 2816) 2563) (Int32.toNatClampNeg x5) (vp_nar .boolean (aI h19 (fR h19 x0 2829) (Int32.toNatClampNeg x3))) → tg h27 (fR h27 x0 2825) = 100 ∧ vp_in x3 (ln h27 (fR h27 x0 2825)) ∧ lX11_bring_46 G fr lo x0 x1 x2 (aI h27 (fR h27 x0 2825) (Int32.toNatClampNeg x3)) (x4 + 1) h27 Q))))
set_option maxRecDepth 100000 in
theorem uX11_bring_103 {G : xG} {fr lo : Nat} {x0 : Nat} {x1 : Int32} {x2 : Int32} {x3 : Int32} {x4 : Int32} {x5 : Int32} {s0 : Int64} {s1 : Int32} {s2 : Nat} {h : xH} {Q : Outcome → xH → Prop} (hq : bX11_bring_103 G fr lo x0 x1 x2 x3 x4 x5 s0 s1 s2 h Q) : xP G YX11_bring fr lo 103 [(0, rv x0), (1, .int x1), (2, .int x2), (3, .int x3), (4, .int x4), (5, .int x5)] [.long s0, .int s1, rv s2] h Q := by
  unfold bX11_bring_103 at hq
  obtain ⟨g1, hq⟩ := hq
  obtain ⟨i2, hq⟩ := hq
  obtain ⟨h3, e4⟩ : ∃ y, y = tJ h s2 (Int32.toNatClampNeg s1) s0 := ⟨_, rfl⟩
  replace hq := hq h3 e4
  refine x_last' g1 i2 dX11_bring_103 e4 ?_
  refine x_aload_n 0 dX11_bring_104 rfl ?_
  obtain ⟨g5, hq⟩ := hq
  refine x_get (v := rv (fR h3 x0 2816)) fdX11_55 dX11_bring_105 g5 rfl ?_
  obtain ⟨g6, hq⟩ := hq
  refine x_getN (v := rv (fR h3 (fR h3 x0 2816) 2561)) gfX11_85 dX11_bring_108 g6 rfl ?_
  refine x_iload 5 dX11_bring_111 rfl ?_
  refine x_aload_n 0 dX11_bring_113 rfl ?_
  refine x_get (v := rv (fR h3 x0 2827)) fdX11_45 dX11_bring_114 g5 rfl ?_
  refine x_iload_n 3 dX11_bring_117 rfl ?_
  obtain ⟨g7, hq⟩ := hq
  obtain ⟨i8, hq⟩ := hq
  refine x_lald g7 i8 dX11_bring_118 ?_
  obtain ⟨g9, hq⟩ := hq
  obtain ⟨i10, hq⟩ := hq
  obtain ⟨h11, e12⟩ : ∃ y, y = tJ h3 (fR h3 (fR h3 x0 2816) 2561) (Int32.toNatClampNeg x5) (aJ h3 (fR h3 x0 2827) (Int32.toNatClampNeg x3)) := ⟨_, rfl⟩
  replace hq := hq h11 e12
  refine x_last' g9 i10 dX11_bring_119 e12 ?_
  refine x_aload_n 0 dX11_bring_120 rfl ?_
  have t13 : tg h11 x0 = 12 := by rw [e12]; exact g5
  refine x_get (v := rv (fR h11 x0 2816)) fdX11_55 dX11_bring_121 t13 rfl ?_
  obtain ⟨g14, hq⟩ := hq
  refine x_getN (v := rv (fR h11 (fR h11 x0 2816) 2562)) gfX11_86 dX11_bring_124 g14 rfl ?_
  refine x_iload 5 dX11_bring_127 rfl ?_
  refine x_aload_n 0 dX11_bring_129 rfl ?_
  refine x_get (v := rv (fR h11 x0 2828)) fdX11_48 dX11_bring_130 t13 rfl ?_
  refine x_iload_n 3 dX11_bring_133 rfl ?_
  obtain ⟨g15, hq⟩ := hq
  obtain ⟨i16, hq⟩ := hq
  refine x_dald g15 i16 dX11_bring_134 ?_
  obtain ⟨g17, hq⟩ := hq
  obtain ⟨i18, hq⟩ := hq
  obtain ⟨h19, e20⟩ : ∃ y, y = tD h11 (fR h11 (fR h11 x0 2816) 2562) (Int32.toNatClampNeg x5) (aD h11 (fR h11 x0 2828) (Int32.toNatClampNeg x3)) := ⟨_, rfl⟩
  replace hq := hq h19 e20
  refine x_dast' g17 i18 dX11_bring_135 e20 ?_
  refine x_aload_n 0 dX11_bring_136 rfl ?_
  have t21 : tg h19 x0 = 12 := by rw [e20]; exact t13
  refine x_get (v := rv (fR h19 x0 2816)) fdX11_55 dX11_bring_137 t21 rfl ?_
  obtain ⟨g22, hq⟩ := hq
  refine x_getN (v := rv (fR h19 (fR h19 x0 2816) 2563)) gfX11_87 dX11_bring_140 g22 rfl ?_
  refine x_iload 5 dX11_bring_143 rfl ?_
  refine x_aload_n 0 dX11_bring_145 rfl ?_
  refine x_get (v := rv (fR h19 x0 2829)) fdX11_52 dX11_bring_146 t21 rfl ?_
  refine x_iload_n 3 dX11_bring_149 rfl ?_
  obtain ⟨g23, hq⟩ := hq
  obtain ⟨i24, hq⟩ := hq
  refine x_zald g23 i24 dX11_bring_150 ?_
  obtain ⟨g25, hq⟩ := hq
  obtain ⟨i26, hq⟩ := hq
  obtain ⟨h27, e28⟩ : ∃ y, y = tI h19 (fR h19 (fR h19 x0 2816) 2563) (Int32.toNatClampNeg x5) (vp_nar .boolean (aI h19 (fR h19 x0 2829) (Int32.toNatClampNeg x3))) := ⟨_, rfl⟩
  replace hq := hq h27 e28
  refine x_zast' g25 i26 dX11_bring_151 e28 ?_
  refine x_aload_n 0 dX11_bring_152 rfl ?_
  have t29 : tg h27 x0 = 12 := by rw [e28]; exact t21
  refine x_get (v := rv (fR h27 x0 2825)) fdX11_38 dX11_bring_153 t29 rfl ?_
  refine x_iload_n 3 dX11_bring_156 rfl ?_
  obtain ⟨g30, hq⟩ := hq
  obtain ⟨i31, hq⟩ := hq
  refine x_iald 0 (Or.inl rfl) g30 i31 dX11_bring_157 ?_
  refine x_istore_n (lv' := [(3, .int (aI h27 (fR h27 x0 2825) (Int32.toNatClampNeg x3))), (0, rv x0), (1, .int x1), (2, .int x2), (4, .int x4), (5, .int x5)]) dX11_bring_158 (by decide) rfl ?_
  refine x_iinc (lv' := [(4, .int (x4 + 1)), (3, .int (aI h27 (fR h27 x0 2825) (Int32.toNatClampNeg x3))), (0, rv x0), (1, .int x1), (2, .int x2), (5, .int x5)]) 4 dX11_bring_159 rfl (by decide) rfl ?_
  refine x_goto (tgt := 46) dX11_bring_162 (by decide) ?_
  refine xP.pick (lv' := [(0, rv x0), (1, .int x1), (2, .int x2), (3, .int (aI h27 (fR h27 x0 2825) (Int32.toNatClampNeg x3))), (4, .int (x4 + 1))]) [2, 3, 4, 1, 0] rfl ?_
  exact hq
set_option maxRecDepth 100000 in
def bX11_bring_97 (G : xG) (fr lo : Nat) (x0 : Nat) (x1 : Int32) (x2 : Int32) (x3 : Int32) (x4 : Int32) (x5 : Int32) (s0 : Int32) (s1 : Nat) (h : xH) (Q : Outcome → xH → Prop) : Prop := tg h x0 = 12 ∧ tg h (fR h x0 2826) = 101 ∧ vp_in x3 (ln h (fR h x0 2826)) ∧ bX11_bring_103 G fr lo x0 x1 x2 x3 x4 x5 (aJ h (fR h x0 2826) (Int32.toNatClampNeg x3)) s0 s1 h Q
set_option maxRecDepth 100000 in
theorem uX11_bring_97 {G : xG} {fr lo : Nat} {x0 : Nat} {x1 : Int32} {x2 : Int32} {x3 : Int32} {x4 : Int32} {x5 : Int32} {s0 : Int32} {s1 : Nat} {h : xH} {Q : Outcome → xH → Prop} (hq : bX11_bring_97 G fr lo x0 x1 x2 x3 x4 x5 s0 s1 h Q) : xP G YX11_bring fr lo 97 [(0, rv x0), (1, .int x1), (2, .int x2), (3, .int x3), (4, .int x4), (5, .int x5)] [.int s0, rv s1] h Q := by
  unfold bX11_bring_97 at hq
  refine x_aload_n 0 dX11_bring_97 rfl ?_
  obtain ⟨g1, hq⟩ := hq
  refine x_get (v := rv (fR h x0 2826)) fdX11_41 dX11_bring_98 g1 rfl ?_
  refine x_iload_n 3 dX11_bring_101 rfl ?_
  obtain ⟨g2, hq⟩ := hq
  obtain ⟨i3, hq⟩ := hq
  refine x_lald g2 i3 dX11_bring_102 ?_
  exact uX11_bring_103 hq
set_option maxRecDepth 100000 in
def bX11_bring_46 (G : xG) (fr lo : Nat) (x0 : Nat) (x1 : Int32) (x2 : Int32) (x3 : Int32) (x4 : Int32) (h : xH) (Q : Outcome → xH → Prop) : Prop := ((x2 ≤ x4 → Q (.returned none) h) ∧ (¬ x2 ≤ x4 → tg h x0 = 12 ∧ tg h (fR h x0 2816) = 11 ∧ tg h (fR h x0 2823) = 104 ∧ vp_in x1 (ln h (fR h x0 2823)) ∧ (((aI h (fR h x0 2823) (Int32.toNatClampNeg x1)) = 0 → bX11_bring_97 G fr lo x0 x1 x2 x3 x4 ((x1 + 1) + x4) ((x1 + 1) + x4) (fR h (fR h x0 2816) 2560) h Q) ∧ (¬ (aI h (fR h x0 2823) (Int32.toNatClampNeg x1)) = 0 → tg h (fR h x0 2826) = 101 ∧ vp_in x3 (ln h (fR h x0 2826)) ∧ ((¬ (lg_cmp (aJ h (fR h x0 2826) (Int32.toNatClampNeg x3)) 10) = 0 → bX11_bring_97 G fr lo x0 x1 x2 x3 x4 ((x1 + 1) + x4) ((x1 + 1) + x4) (fR h (fR h x0 2816) 2560) h Q) ∧ ((lg_cmp (aJ h (fR h x0 2826) (Int32.toNatClampNeg x3)) 10) = 0 → bX11_bring_103 G fr lo x0 x1 x2 x3 x4 ((x1 + 1) + x4) 32 ((x1 + 1) + x4) (fR h (fR h x0 2816) 2560) h Q))))))
set_option maxRecDepth 100000 in
theorem uX11_bring_46 {G : xG} {fr lo : Nat} {x0 : Nat} {x1 : Int32} {x2 : Int32} {x3 : Int32} {x4 : Int32} {h : xH} {Q : Outcome → xH → Prop} (hq : bX11_bring_46 G fr lo x0 x1 x2 x3 x4 h Q) : xP G YX11_bring fr lo 46 [(0, rv x0), (1, .int x1), (2, .int x2), (3, .int x3), (4, .int x4)] [] h Q := by
  unfold bX11_bring_46 at hq
  refine x_iload 4 dX11_bring_46 rfl ?_
  refine x_iload_n 2 dX11_bring_48 rfl ?_
  refine x_icmp_ge (tgt := 165) dX11_bring_49 (by decide) (fun c1 => ?_) (fun c1 => ?_)
  · replace hq := hq.1 c1
    exact x_vret rfl dX11_bring_165 hq
  · replace hq := hq.2 c1
    refine x_iload_n 1 dX11_bring_52 rfl ?_
    refine x_iconst (v := 1) dX11_bring_53 (by decide) ?_
    refine x_iadd dX11_bring_54 ?_
    refine x_iload 4 dX11_bring_55 rfl ?_
    refine x_iadd dX11_bring_57 ?_
    refine x_istore (lv' := [(5, .int ((x1 + 1) + x4)), (0, rv x0), (1, .int x1), (2, .int x2), (3, .int x3), (4, .int x4)]) dX11_bring_58 (by decide) rfl ?_
    refine x_aload_n 1 dX11_bring_60 rfl ?_
    obtain ⟨g2, hq⟩ := hq
    refine x_get (v := rv (fR h x0 2816)) fdX11_55 dX11_bring_61 g2 rfl ?_
    obtain ⟨g3, hq⟩ := hq
    refine x_getN (v := rv (fR h (fR h x0 2816) 2560)) gfX11_82 dX11_bring_64 g3 rfl ?_
    refine x_iload 0 dX11_bring_67 rfl ?_
    refine x_aload_n 1 dX11_bring_69 rfl ?_
    refine x_get (v := rv (fR h x0 2823)) fdX11_30 dX11_bring_70 g2 rfl ?_
    refine x_iload_n 2 dX11_bring_73 rfl ?_
    obtain ⟨g4, hq⟩ := hq
    obtain ⟨i5, hq⟩ := hq
    refine x_zald g4 i5 dX11_bring_74 ?_
    refine x_if_eq (tgt := 97) dX11_bring_75 (by decide) (fun c6 => ?_) (fun c6 => ?_)
    · replace hq := hq.1 c6
      refine xP.pick (lv' := [(0, rv x0), (1, .int x1), (2, .int x2), (3, .int x3), (4, .int x4), (5, .int ((x1 + 1) + x4))]) [1, 2, 3, 4, 5, 0] rfl ?_
      exact uX11_bring_97 hq
    · replace hq := hq.2 c6
      refine x_aload_n 1 dX11_bring_78 rfl ?_
      refine x_get (v := rv (fR h x0 2826)) fdX11_41 dX11_bring_79 g2 rfl ?_
      refine x_iload_n 4 dX11_bring_82 rfl ?_
      obtain ⟨g7, hq⟩ := hq
      obtain ⟨i8, hq⟩ := hq
      refine x_lald g7 i8 dX11_bring_83 ?_
      refine x_ldc2 (v := 10) q2871 dX11_bring_84 ?_
      refine x_lcmp dX11_bring_87 ?_
      refine x_if_ne (tgt := 97) dX11_bring_88 (by decide) (fun c9 => ?_) (fun c9 => ?_)
      · replace hq := hq.1 c9
        refine xP.pick (lv' := [(0, rv x0), (1, .int x1), (2, .int x2), (3, .int x3), (4, .int x4), (5, .int ((x1 + 1) + x4))]) [1, 2, 3, 4, 5, 0] rfl ?_
        exact uX11_bring_97 hq
      · replace hq := hq.2 c9
        refine x_ldc2 (v := 32) q2878 dX11_bring_91 ?_
        refine x_goto (tgt := 103) dX11_bring_94 (by decide) ?_
        refine xP.pick (lv' := [(0, rv x0), (1, .int x1), (2, .int x2), (3, .int x3), (4, .int x4), (5, .int ((x1 + 1) + x4))]) [1, 2, 3, 4, 5, 0] rfl ?_
        exact uX11_bring_103 hq
set_option maxRecDepth 100000 in
def bX11_bring_35 (G : xG) (fr lo : Nat) (h : xH) (Q : Outcome → xH → Prop) : Prop := Q (.returned none) h
set_option maxRecDepth 100000 in
theorem uX11_bring_35 {G : xG} {fr lo : Nat} {h : xH} {Q : Outcome → xH → Prop} (hq : bX11_bring_35 G fr lo h Q) : xP G YX11_bring fr lo 35 [] [] h Q := by
  unfold bX11_bring_35 at hq
  exact x_vret rfl dX11_bring_35 hq
set_option maxRecDepth 100000 in
def bX11_bring (G : xG) (fr lo : Nat) (x0 : Nat) (x1 : Int32) (x2 : Int32) (h : xH) (Q : Outcome → xH → Prop) : Prop := tg h x0 = 12 ∧ tg h (fR h x0 2816) = 11 ∧ 1 ≤ fr ∧ 15 ≤ lo ∧ xRv G YX10_forget (fr - 1) (lo - 15) [rv (fR h x0 2816), .int (x1 + 1), .int ((x1 + 1) + x2)] h (fun h5 => xext h h5 → tg h5 (fR h5 x0 2817) = 100 ∧ vp_in x1 (ln h5 (fR h5 x0 2817)) ∧ ((¬ (aI h5 (fR h5 x0 2817) (Int32.toNatClampNeg x1)) = 1 → bX11_bring_35 G fr lo h5 Q) ∧ ((aI h5 (fR h5 x0 2817) (Int32.toNatClampNeg x1)) = 1 → tg h5 (fR h5 x0 2820) = 100 ∧ vp_in x1 (ln h5 (fR h5 x0 2820)) ∧ ((¬ (aI h5 (fR h5 x0 2820) (Int32.toNatClampNeg x1)) = (-1) → vp_in x1 (ln h5 (fR h5 x0 2820)) ∧ lX11_bring_46 G fr lo x0 x1 x2 (aI h5 (fR h5 x0 2820) (Int32.toNatClampNeg x1)) 0 h5 Q) ∧ ((aI h5 (fR h5 x0 2820) (Int32.toNatClampNeg x1)) = (-1) → bX11_bring_35 G fr lo h5 Q))))) (fun r h2 => Q (.threw r) h2)
set_option maxRecDepth 100000 in
theorem uX11_bring {G : xG} {fr lo : Nat} {x0 : Nat} {x1 : Int32} {x2 : Int32} {h : xH} {Q : Outcome → xH → Prop} (hq : bX11_bring G fr lo x0 x1 x2 h Q) : xP G YX11_bring fr lo 0 [(0, rv x0), (1, .int x1), (2, .int x2)] [] h Q := by
  unfold bX11_bring at hq
  refine x_aload_n 0 dX11_bring_0 rfl ?_
  obtain ⟨g1, hq⟩ := hq
  refine x_get (v := rv (fR h x0 2816)) fdX11_55 dX11_bring_1 g1 rfl ?_
  refine x_iload_n 1 dX11_bring_4 rfl ?_
  refine x_iconst (v := 1) dX11_bring_5 (by decide) ?_
  refine x_iadd dX11_bring_6 ?_
  refine x_iload_n 1 dX11_bring_7 rfl ?_
  refine x_iconst (v := 1) dX11_bring_8 (by decide) ?_
  refine x_iadd dX11_bring_9 ?_
  refine x_iload_n 2 dX11_bring_10 rfl ?_
  refine x_iadd dX11_bring_11 ?_
  obtain ⟨g2, hq⟩ := hq
  obtain ⟨g3, g4, hq⟩ := hq
  refine x_callV (Yc := YX10_forget) (as := [.int (x1 + 1), .int ((x1 + 1) + x2)]) (st := []) q2877 mvX10_forget g2 rfl dX11_bring_12 (xle (xal1 (rv_cat _) (xal1 rfl (xal1 rfl xal0))) (by decide)) (xfr g3) (xlo xsw0 (by decide) g4) (xKv hq (fun h5 hq e7 => ?_) (fun _ _ q _ => q))
  replace hq := hq e7
  refine x_aload_n 0 dX11_bring_15 rfl ?_
  have t8 : tg h5 x0 = 12 := e7.tg g1 (by decide)
  refine x_get (v := rv (fR h5 x0 2817)) fdX11_9 dX11_bring_16 t8 rfl ?_
  refine x_iload_n 1 dX11_bring_19 rfl ?_
  obtain ⟨g9, hq⟩ := hq
  obtain ⟨i10, hq⟩ := hq
  refine x_iald 0 (Or.inl rfl) g9 i10 dX11_bring_20 ?_
  refine x_iconst (v := 1) dX11_bring_21 (by decide) ?_
  refine x_icmp_ne (tgt := 35) dX11_bring_22 (by decide) (fun c11 => ?_) (fun c11 => ?_)
  · replace hq := hq.1 c11
    refine xP.pick (lv' := []) [] rfl ?_
    exact uX11_bring_35 hq
  · replace hq := hq.2 c11
    refine x_aload_n 0 dX11_bring_25 rfl ?_
    refine x_get (v := rv (fR h5 x0 2820)) fdX11_21 dX11_bring_26 t8 rfl ?_
    refine x_iload_n 1 dX11_bring_29 rfl ?_
    obtain ⟨g12, hq⟩ := hq
    obtain ⟨i13, hq⟩ := hq
    refine x_iald 0 (Or.inl rfl) g12 i13 dX11_bring_30 ?_
    refine x_iconst (v := (-1)) dX11_bring_31 (by decide) ?_
    refine x_icmp_ne (tgt := 36) dX11_bring_32 (by decide) (fun c14 => ?_) (fun c14 => ?_)
    · replace hq := hq.1 c14
      refine x_aload_n 0 dX11_bring_36 rfl ?_
      refine x_get (v := rv (fR h5 x0 2820)) fdX11_21 dX11_bring_37 t8 rfl ?_
      refine x_iload_n 1 dX11_bring_40 rfl ?_
      obtain ⟨i15, hq⟩ := hq
      refine x_iald 0 (Or.inl rfl) g12 i15 dX11_bring_41 ?_
      refine x_istore_n (lv' := [(3, .int (aI h5 (fR h5 x0 2820) (Int32.toNatClampNeg x1))), (0, rv x0), (1, .int x1), (2, .int x2)]) dX11_bring_42 (by decide) rfl ?_
      refine x_iconst (v := 0) dX11_bring_43 (by decide) ?_
      refine x_istore (lv' := [(4, .int 0), (3, .int (aI h5 (fR h5 x0 2820) (Int32.toNatClampNeg x1))), (0, rv x0), (1, .int x1), (2, .int x2)]) dX11_bring_44 (by decide) rfl ?_
      refine xP.pick (lv' := [(0, rv x0), (1, .int x1), (2, .int x2), (3, .int (aI h5 (fR h5 x0 2820) (Int32.toNatClampNeg x1))), (4, .int 0)]) [2, 3, 4, 1, 0] rfl ?_
      exact hq
    · replace hq := hq.2 c14
      refine xP.pick (lv' := []) [] rfl ?_
      exact uX11_bring_35 hq
theorem rX11_bring {G : xG} {fr lo : Nat} {x0 : Nat} {x1 : Int32} {x2 : Int32} {h : xH} {Q : Outcome → xH → Prop} (hq : bX11_bring G fr lo x0 x1 x2 h Q) : xR G YX11_bring fr lo [rv x0, .int x1, .int x2] h Q := by
  show xP _ _ _ _ _ (lv_args 0 _) _ _ _
  rw [show lv_args 0 [rv x0, .int x1, .int x2] = [(0, rv x0), (1, .int x1), (2, .int x2)] from (xla1 (rv_cat _) (xla1 rfl (xla1 rfl xla0)))]
  exact uX11_bring hq
set_option maxRecDepth 100000 in
theorem dX11_empty_0 : decode cX11_empty 0 = .ok (.aload_n 0, 1) := by decide +kernel
set_option maxRecDepth 100000 in
theorem dX11_empty_1 : decode cX11_empty 1 = .ok (.getfield 15, 3) := by decide +kernel
set_option maxRecDepth 100000 in
theorem dX11_empty_4 : decode cX11_empty 4 = .ok (.iload_n 1, 1) := by decide +kernel
set_option maxRecDepth 100000 in
theorem dX11_empty_5 : decode cX11_empty 5 = .ok (.iaload, 1) := by decide +kernel
set_option maxRecDepth 100000 in
theorem dX11_empty_6 : decode cX11_empty 6 = .ok (.iconst (-1), 1) := by decide +kernel
set_option maxRecDepth 100000 in
theorem dX11_empty_7 : decode cX11_empty 7 = .ok (.if_icmp .eq 28, 3) := by decide +kernel
set_option maxRecDepth 100000 in
theorem dX11_empty_10 : decode cX11_empty 10 = .ok (.aload_n 0, 1) := by decide +kernel
set_option maxRecDepth 100000 in
theorem dX11_empty_11 : decode cX11_empty 11 = .ok (.getfield 38, 3) := by decide +kernel
set_option maxRecDepth 100000 in
theorem dX11_empty_14 : decode cX11_empty 14 = .ok (.aload_n 0, 1) := by decide +kernel
set_option maxRecDepth 100000 in
theorem dX11_empty_15 : decode cX11_empty 15 = .ok (.getfield 18, 3) := by decide +kernel
set_option maxRecDepth 100000 in
theorem dX11_empty_18 : decode cX11_empty 18 = .ok (.iload_n 1, 1) := by decide +kernel
set_option maxRecDepth 100000 in
theorem dX11_empty_19 : decode cX11_empty 19 = .ok (.iaload, 1) := by decide +kernel
set_option maxRecDepth 100000 in
theorem dX11_empty_20 : decode cX11_empty 20 = .ok (.aload_n 0, 1) := by decide +kernel
set_option maxRecDepth 100000 in
theorem dX11_empty_21 : decode cX11_empty 21 = .ok (.getfield 59, 3) := by decide +kernel
set_option maxRecDepth 100000 in
theorem dX11_empty_24 : decode cX11_empty 24 = .ok (.iastore, 1) := by decide +kernel
set_option maxRecDepth 100000 in
theorem dX11_empty_25 : decode cX11_empty 25 = .ok (.aload_n 0, 1) := by decide +kernel
set_option maxRecDepth 100000 in
theorem dX11_empty_26 : decode cX11_empty 26 = .ok (.aload_n 0, 1) := by decide +kernel
set_option maxRecDepth 100000 in
theorem dX11_empty_27 : decode cX11_empty 27 = .ok (.getfield 15, 3) := by decide +kernel
set_option maxRecDepth 100000 in
theorem dX11_empty_30 : decode cX11_empty 30 = .ok (.iload_n 1, 1) := by decide +kernel
set_option maxRecDepth 100000 in
theorem dX11_empty_31 : decode cX11_empty 31 = .ok (.iaload, 1) := by decide +kernel
set_option maxRecDepth 100000 in
theorem dX11_empty_32 : decode cX11_empty 32 = .ok (.putfield 59, 3) := by decide +kernel
set_option maxRecDepth 100000 in
theorem dX11_empty_35 : decode cX11_empty 35 = .ok (.aload_n 0, 1) := by decide +kernel
set_option maxRecDepth 100000 in
theorem dX11_empty_36 : decode cX11_empty 36 = .ok (.dup, 1) := by decide +kernel
set_option maxRecDepth 100000 in
theorem dX11_empty_37 : decode cX11_empty 37 = .ok (.getfield 63, 3) := by decide +kernel
set_option maxRecDepth 100000 in
theorem dX11_empty_40 : decode cX11_empty 40 = .ok (.aload_n 0, 1) := by decide +kernel
set_option maxRecDepth 100000 in
theorem dX11_empty_41 : decode cX11_empty 41 = .ok (.getfield 24, 3) := by decide +kernel
set_option maxRecDepth 100000 in
theorem dX11_empty_44 : decode cX11_empty 44 = .ok (.iload_n 1, 1) := by decide +kernel
set_option maxRecDepth 100000 in
theorem dX11_empty_45 : decode cX11_empty 45 = .ok (.iaload, 1) := by decide +kernel
set_option maxRecDepth 100000 in
theorem dX11_empty_46 : decode cX11_empty 46 = .ok (.isub, 1) := by decide +kernel
set_option maxRecDepth 100000 in
theorem dX11_empty_47 : decode cX11_empty 47 = .ok (.putfield 63, 3) := by decide +kernel
set_option maxRecDepth 100000 in
theorem dX11_empty_50 : decode cX11_empty 50 = .ok (.aload_n 0, 1) := by decide +kernel
set_option maxRecDepth 100000 in
theorem dX11_empty_51 : decode cX11_empty 51 = .ok (.getfield 15, 3) := by decide +kernel
set_option maxRecDepth 100000 in
theorem dX11_empty_54 : decode cX11_empty 54 = .ok (.iload_n 1, 1) := by decide +kernel
set_option maxRecDepth 100000 in
theorem dX11_empty_55 : decode cX11_empty 55 = .ok (.iconst (-1), 1) := by decide +kernel
set_option maxRecDepth 100000 in
theorem dX11_empty_56 : decode cX11_empty 56 = .ok (.iastore, 1) := by decide +kernel
set_option maxRecDepth 100000 in
theorem dX11_empty_57 : decode cX11_empty 57 = .ok (.aload_n 0, 1) := by decide +kernel
set_option maxRecDepth 100000 in
theorem dX11_empty_58 : decode cX11_empty 58 = .ok (.getfield 18, 3) := by decide +kernel
set_option maxRecDepth 100000 in
theorem dX11_empty_61 : decode cX11_empty 61 = .ok (.iload_n 1, 1) := by decide +kernel
set_option maxRecDepth 100000 in
theorem dX11_empty_62 : decode cX11_empty 62 = .ok (.iconst (-1), 1) := by decide +kernel
set_option maxRecDepth 100000 in
theorem dX11_empty_63 : decode cX11_empty 63 = .ok (.iastore, 1) := by decide +kernel
set_option maxRecDepth 100000 in
theorem dX11_empty_64 : decode cX11_empty 64 = .ok (.aload_n 0, 1) := by decide +kernel
set_option maxRecDepth 100000 in
theorem dX11_empty_65 : decode cX11_empty 65 = .ok (.getfield 21, 3) := by decide +kernel
set_option maxRecDepth 100000 in
theorem dX11_empty_68 : decode cX11_empty 68 = .ok (.iload_n 1, 1) := by decide +kernel
set_option maxRecDepth 100000 in
theorem dX11_empty_69 : decode cX11_empty 69 = .ok (.iconst (-1), 1) := by decide +kernel
set_option maxRecDepth 100000 in
theorem dX11_empty_70 : decode cX11_empty 70 = .ok (.iastore, 1) := by decide +kernel
set_option maxRecDepth 100000 in
theorem dX11_empty_71 : decode cX11_empty 71 = .ok (.aload_n 0, 1) := by decide +kernel
set_option maxRecDepth 100000 in
theorem dX11_empty_72 : decode cX11_empty 72 = .ok (.getfield 24, 3) := by decide +kernel
set_option maxRecDepth 100000 in
theorem dX11_empty_75 : decode cX11_empty 75 = .ok (.iload_n 1, 1) := by decide +kernel
set_option maxRecDepth 100000 in
theorem dX11_empty_76 : decode cX11_empty 76 = .ok (.iconst 0, 1) := by decide +kernel
set_option maxRecDepth 100000 in
theorem dX11_empty_77 : decode cX11_empty 77 = .ok (.iastore, 1) := by decide +kernel
set_option maxRecDepth 100000 in
theorem dX11_empty_78 : decode cX11_empty 78 = .ok (.return_, 1) := by decide +kernel
set_option maxRecDepth 100000 in
def bX11_empty_35 (G : xG) (fr lo : Nat) (x0 : Nat) (x1 : Int32) (h : xH) (Q : Outcome → xH → Prop) : Prop := tg h x0 = 12 ∧ tg h (fR h x0 2821) = 100 ∧ vp_in x1 (ln h (fR h x0 2821)) ∧ (∀ h4 : xH, h4 = sI h x0 2831 ((fI h x0 2831) - (aI h (fR h x0 2821) (Int32.toNatClampNeg x1))) → tg h4 (fR h4 x0 2818) = 100 ∧ vp_in x1 (ln h4 (fR h4 x0 2818)) ∧ (∀ h9 : xH, h9 = tI h4 (fR h4 x0 2818) (Int32.toNatClampNeg x1) (-1) → tg h9 (fR h9 x0 2819) = 100 ∧ vp_in x1 (ln h9 (fR h9 x0 2819)) ∧ (∀ h14 : xH, h14 = tI h9 (fR h9 x0 2819) (Int32.toNatClampNeg x1) (-1) → tg h14 (fR h14 x0 2820) = 100 ∧ vp_in x1 (ln h14 (fR h14 x0 2820)) ∧ (∀ h19 : xH, h19 = tI h14 (fR h14 x0 2820) (Int32.toNatClampNeg x1) (-1) → tg h19 (fR h19 x0 2821) = 100 ∧ vp_in x1 (ln h19 (fR h19 x0 2821)) ∧ (∀ h24 : xH, h24 = tI h19 (fR h19 x0 2821) (Int32.toNatClampNeg x1) 0 → Q (.returned none) h24)))))
set_option maxRecDepth 100000 in
theorem uX11_empty_35 {G : xG} {fr lo : Nat} {x0 : Nat} {x1 : Int32} {h : xH} {Q : Outcome → xH → Prop} (hq : bX11_empty_35 G fr lo x0 x1 h Q) : xP G YX11_empty fr lo 35 [(0, rv x0), (1, .int x1)] [] h Q := by
  unfold bX11_empty_35 at hq
  refine x_aload_n 0 dX11_empty_35 rfl ?_
  refine x_dup dX11_empty_36 (rv_cat _) ?_
  obtain ⟨g1, hq⟩ := hq
  refine x_get (v := .int (fI h x0 2831)) fdX11_63 dX11_empty_37 g1 rfl ?_
  refine x_aload_n 0 dX11_empty_40 rfl ?_
  refine x_get (v := rv (fR h x0 2821)) fdX11_24 dX11_empty_41 g1 rfl ?_
  refine x_iload_n 1 dX11_empty_44 rfl ?_
  obtain ⟨g2, hq⟩ := hq
  obtain ⟨i3, hq⟩ := hq
  refine x_iald 0 (Or.inl rfl) g2 i3 dX11_empty_45 ?_
  refine x_isub dX11_empty_46 ?_
  obtain ⟨h4, e5⟩ : ∃ y, y = sI h x0 2831 ((fI h x0 2831) - (aI h (fR h x0 2821) (Int32.toNatClampNeg x1))) := ⟨_, rfl⟩
  replace hq := hq h4 e5
  refine x_putI fdX11_63 xty_I1 dX11_empty_47 g1 (Or.inl (by rw [g1]; rfl)) xnI rfl e5 ?_
  refine x_aload_n 0 dX11_empty_50 rfl ?_
  have t6 : tg h4 x0 = 12 := by rw [e5]; exact g1
  refine x_get (v := rv (fR h4 x0 2818)) fdX11_15 dX11_empty_51 t6 rfl ?_
  refine x_iload_n 1 dX11_empty_54 rfl ?_
  refine x_iconst (v := (-1)) dX11_empty_55 (by decide) ?_
  obtain ⟨g7, hq⟩ := hq
  obtain ⟨i8, hq⟩ := hq
  obtain ⟨h9, e10⟩ : ∃ y, y = tI h4 (fR h4 x0 2818) (Int32.toNatClampNeg x1) (-1) := ⟨_, rfl⟩
  replace hq := hq h9 e10
  refine x_iast' g7 i8 dX11_empty_56 e10 ?_
  refine x_aload_n 0 dX11_empty_57 rfl ?_
  have t11 : tg h9 x0 = 12 := by rw [e10]; exact t6
  refine x_get (v := rv (fR h9 x0 2819)) fdX11_18 dX11_empty_58 t11 rfl ?_
  refine x_iload_n 1 dX11_empty_61 rfl ?_
  refine x_iconst (v := (-1)) dX11_empty_62 (by decide) ?_
  obtain ⟨g12, hq⟩ := hq
  obtain ⟨i13, hq⟩ := hq
  obtain ⟨h14, e15⟩ : ∃ y, y = tI h9 (fR h9 x0 2819) (Int32.toNatClampNeg x1) (-1) := ⟨_, rfl⟩
  replace hq := hq h14 e15
  refine x_iast' g12 i13 dX11_empty_63 e15 ?_
  refine x_aload_n 0 dX11_empty_64 rfl ?_
  have t16 : tg h14 x0 = 12 := by rw [e15]; exact t11
  refine x_get (v := rv (fR h14 x0 2820)) fdX11_21 dX11_empty_65 t16 rfl ?_
  refine x_iload_n 1 dX11_empty_68 rfl ?_
  refine x_iconst (v := (-1)) dX11_empty_69 (by decide) ?_
  obtain ⟨g17, hq⟩ := hq
  obtain ⟨i18, hq⟩ := hq
  obtain ⟨h19, e20⟩ : ∃ y, y = tI h14 (fR h14 x0 2820) (Int32.toNatClampNeg x1) (-1) := ⟨_, rfl⟩
  replace hq := hq h19 e20
  refine x_iast' g17 i18 dX11_empty_70 e20 ?_
  refine x_aload_n 0 dX11_empty_71 rfl ?_
  have t21 : tg h19 x0 = 12 := by rw [e20]; exact t16
  refine x_get (v := rv (fR h19 x0 2821)) fdX11_24 dX11_empty_72 t21 rfl ?_
  refine x_iload_n 1 dX11_empty_75 rfl ?_
  refine x_iconst (v := 0) dX11_empty_76 (by decide) ?_
  obtain ⟨g22, hq⟩ := hq
  obtain ⟨i23, hq⟩ := hq
  obtain ⟨h24, e25⟩ : ∃ y, y = tI h19 (fR h19 x0 2821) (Int32.toNatClampNeg x1) 0 := ⟨_, rfl⟩
  replace hq := hq h24 e25
  refine x_iast' g22 i23 dX11_empty_77 e25 ?_
  exact x_vret rfl dX11_empty_78 hq
set_option maxRecDepth 100000 in
def bX11_empty (G : xG) (fr lo : Nat) (x0 : Nat) (x1 : Int32) (h : xH) (Q : Outcome → xH → Prop) : Prop := tg h x0 = 12 ∧ tg h (fR h x0 2818) = 100 ∧ vp_in x1 (ln h (fR h x0 2818)) ∧ (((aI h (fR h x0 2818) (Int32.toNatClampNeg x1)) = (-1) → bX11_empty_35 G fr lo x0 x1 h Q) ∧ (¬ (aI h (fR h x0 2818) (Int32.toNatClampNeg x1)) = (-1) → tg h (fR h x0 2819) = 100 ∧ vp_in x1 (ln h (fR h x0 2819)) ∧ tg h (fR h x0 2825) = 100 ∧ vp_in (aI h (fR h x0 2819) (Int32.toNatClampNeg x1)) (ln h (fR h x0 2825)) ∧ (∀ h9 : xH, h9 = tI h (fR h x0 2825) (Int32.toNatClampNeg (aI h (fR h x0 2819) (Int32.toNatClampNeg x1))) (fI h x0 2830) → tg h9 (fR h9 x0 2818) = 100 ∧ vp_in x1 (ln h9 (fR h9 x0 2818)) ∧ (∀ h14 : xH, h14 = sI h9 x0 2830 (aI h9 (fR h9 x0 2818) (Int32.toNatClampNeg x1)) → bX11_empty_35 G fr lo x0 x1 h14 Q))))
set_option maxRecDepth 100000 in
theorem uX11_empty {G : xG} {fr lo : Nat} {x0 : Nat} {x1 : Int32} {h : xH} {Q : Outcome → xH → Prop} (hq : bX11_empty G fr lo x0 x1 h Q) : xP G YX11_empty fr lo 0 [(0, rv x0), (1, .int x1)] [] h Q := by
  unfold bX11_empty at hq
  refine x_aload_n 0 dX11_empty_0 rfl ?_
  obtain ⟨g1, hq⟩ := hq
  refine x_get (v := rv (fR h x0 2818)) fdX11_15 dX11_empty_1 g1 rfl ?_
  refine x_iload_n 1 dX11_empty_4 rfl ?_
  obtain ⟨g2, hq⟩ := hq
  obtain ⟨i3, hq⟩ := hq
  refine x_iald 0 (Or.inl rfl) g2 i3 dX11_empty_5 ?_
  refine x_iconst (v := (-1)) dX11_empty_6 (by decide) ?_
  refine x_icmp_eq (tgt := 35) dX11_empty_7 (by decide) (fun c4 => ?_) (fun c4 => ?_)
  · replace hq := hq.1 c4
    exact uX11_empty_35 hq
  · replace hq := hq.2 c4
    refine x_aload_n 0 dX11_empty_10 rfl ?_
    refine x_get (v := rv (fR h x0 2825)) fdX11_38 dX11_empty_11 g1 rfl ?_
    refine x_aload_n 0 dX11_empty_14 rfl ?_
    refine x_get (v := rv (fR h x0 2819)) fdX11_18 dX11_empty_15 g1 rfl ?_
    refine x_iload_n 1 dX11_empty_18 rfl ?_
    obtain ⟨g5, hq⟩ := hq
    obtain ⟨i6, hq⟩ := hq
    refine x_iald 0 (Or.inl rfl) g5 i6 dX11_empty_19 ?_
    refine x_aload_n 0 dX11_empty_20 rfl ?_
    refine x_get (v := .int (fI h x0 2830)) fdX11_59 dX11_empty_21 g1 rfl ?_
    obtain ⟨g7, hq⟩ := hq
    obtain ⟨i8, hq⟩ := hq
    obtain ⟨h9, e10⟩ : ∃ y, y = tI h (fR h x0 2825) (Int32.toNatClampNeg (aI h (fR h x0 2819) (Int32.toNatClampNeg x1))) (fI h x0 2830) := ⟨_, rfl⟩
    replace hq := hq h9 e10
    refine x_iast' g7 i8 dX11_empty_24 e10 ?_
    refine x_aload_n 0 dX11_empty_25 rfl ?_
    refine x_aload_n 0 dX11_empty_26 rfl ?_
    have t11 : tg h9 x0 = 12 := by rw [e10]; exact g1
    refine x_get (v := rv (fR h9 x0 2818)) fdX11_15 dX11_empty_27 t11 rfl ?_
    refine x_iload_n 1 dX11_empty_30 rfl ?_
    obtain ⟨g12, hq⟩ := hq
    obtain ⟨i13, hq⟩ := hq
    refine x_iald 0 (Or.inl rfl) g12 i13 dX11_empty_31 ?_
    obtain ⟨h14, e15⟩ : ∃ y, y = sI h9 x0 2830 (aI h9 (fR h9 x0 2818) (Int32.toNatClampNeg x1)) := ⟨_, rfl⟩
    replace hq := hq h14 e15
    refine x_putI fdX11_59 xty_I1 dX11_empty_32 t11 (Or.inl (by rw [t11]; rfl)) xnI rfl e15 ?_
    exact uX11_empty_35 hq
theorem rX11_empty {G : xG} {fr lo : Nat} {x0 : Nat} {x1 : Int32} {h : xH} {Q : Outcome → xH → Prop} (hq : bX11_empty G fr lo x0 x1 h Q) : xR G YX11_empty fr lo [rv x0, .int x1] h Q := by
  show xP _ _ _ _ _ (lv_args 0 _) _ _ _
  rw [show lv_args 0 [rv x0, .int x1] = [(0, rv x0), (1, .int x1)] from (xla1 (rv_cat _) (xla1 rfl xla0))]
  exact uX11_empty hq
set_option maxRecDepth 100000 in
theorem dX11_hasRoom_0 : decode cX11_hasRoom 0 = .ok (.aload_n 0, 1) := by decide +kernel
set_option maxRecDepth 100000 in
theorem dX11_hasRoom_1 : decode cX11_hasRoom 1 = .ok (.getfield 24, 3) := by decide +kernel
set_option maxRecDepth 100000 in
theorem dX11_hasRoom_4 : decode cX11_hasRoom 4 = .ok (.iload_n 1, 1) := by decide +kernel
set_option maxRecDepth 100000 in
theorem dX11_hasRoom_5 : decode cX11_hasRoom 5 = .ok (.iaload, 1) := by decide +kernel
set_option maxRecDepth 100000 in
theorem dX11_hasRoom_6 : decode cX11_hasRoom 6 = .ok (.iload_n 2, 1) := by decide +kernel
set_option maxRecDepth 100000 in
theorem dX11_hasRoom_7 : decode cX11_hasRoom 7 = .ok (.iadd, 1) := by decide +kernel
set_option maxRecDepth 100000 in
theorem dX11_hasRoom_8 : decode cX11_hasRoom 8 = .ok (.sipush 3000, 3) := by decide +kernel
set_option maxRecDepth 100000 in
theorem dX11_hasRoom_11 : decode cX11_hasRoom 11 = .ok (.if_icmp .gt 19, 3) := by decide +kernel
set_option maxRecDepth 100000 in
theorem dX11_hasRoom_14 : decode cX11_hasRoom 14 = .ok (.aload_n 0, 1) := by decide +kernel
set_option maxRecDepth 100000 in
theorem dX11_hasRoom_15 : decode cX11_hasRoom 15 = .ok (.getfield 63, 3) := by decide +kernel
set_option maxRecDepth 100000 in
theorem dX11_hasRoom_18 : decode cX11_hasRoom 18 = .ok (.iload_n 2, 1) := by decide +kernel
set_option maxRecDepth 100000 in
theorem dX11_hasRoom_19 : decode cX11_hasRoom 19 = .ok (.iadd, 1) := by decide +kernel
set_option maxRecDepth 100000 in
theorem dX11_hasRoom_20 : decode cX11_hasRoom 20 = .ok (.sipush 30000, 3) := by decide +kernel
set_option maxRecDepth 100000 in
theorem dX11_hasRoom_23 : decode cX11_hasRoom 23 = .ok (.if_icmp .gt 7, 3) := by decide +kernel
set_option maxRecDepth 100000 in
theorem dX11_hasRoom_26 : decode cX11_hasRoom 26 = .ok (.iconst 1, 1) := by decide +kernel
set_option maxRecDepth 100000 in
theorem dX11_hasRoom_27 : decode cX11_hasRoom 27 = .ok (.goto 4, 3) := by decide +kernel
set_option maxRecDepth 100000 in
theorem dX11_hasRoom_30 : decode cX11_hasRoom 30 = .ok (.iconst 0, 1) := by decide +kernel
set_option maxRecDepth 100000 in
theorem dX11_hasRoom_31 : decode cX11_hasRoom 31 = .ok (.ireturn, 1) := by decide +kernel
set_option maxRecDepth 100000 in
def bX11_hasRoom_31 (G : xG) (fr lo : Nat) (s0 : Int32) (h : xH) (Q : Outcome → xH → Prop) : Prop := xbz s0 ∧ Q (.returned (some (.int s0))) h
set_option maxRecDepth 100000 in
theorem uX11_hasRoom_31 {G : xG} {fr lo : Nat} {s0 : Int32} {h : xH} {Q : Outcome → xH → Prop} (hq : bX11_hasRoom_31 G fr lo s0 h Q) : xP G YX11_hasRoom fr lo 31 [] [.int s0] h Q := by
  unfold bX11_hasRoom_31 at hq
  obtain ⟨g1, hq⟩ := hq
  exact x_iret rfl (xnZ g1) dX11_hasRoom_31 hq
set_option maxRecDepth 100000 in
def bX11_hasRoom_30 (G : xG) (fr lo : Nat) (h : xH) (Q : Outcome → xH → Prop) : Prop := bX11_hasRoom_31 G fr lo 0 h Q
set_option maxRecDepth 100000 in
theorem uX11_hasRoom_30 {G : xG} {fr lo : Nat} {h : xH} {Q : Outcome → xH → Prop} (hq : bX11_hasRoom_30 G fr lo h Q) : xP G YX11_hasRoom fr lo 30 [] [] h Q := by
  unfold bX11_hasRoom_30 at hq
  refine x_iconst (v := 0) dX11_hasRoom_30 (by decide) ?_
  exact uX11_hasRoom_31 hq
set_option maxRecDepth 100000 in
def bX11_hasRoom (G : xG) (fr lo : Nat) (x0 : Nat) (x1 : Int32) (x2 : Int32) (h : xH) (Q : Outcome → xH → Prop) : Prop := tg h x0 = 12 ∧ tg h (fR h x0 2821) = 100 ∧ vp_in x1 (ln h (fR h x0 2821)) ∧ ((3000 < ((aI h (fR h x0 2821) (Int32.toNatClampNeg x1)) + x2) → bX11_hasRoom_30 G fr lo h Q) ∧ (¬ 3000 < ((aI h (fR h x0 2821) (Int32.toNatClampNeg x1)) + x2) → ((30000 < ((fI h x0 2831) + x2) → bX11_hasRoom_30 G fr lo h Q) ∧ (¬ 30000 < ((fI h x0 2831) + x2) → bX11_hasRoom_31 G fr lo 1 h Q))))
set_option maxRecDepth 100000 in
theorem uX11_hasRoom {G : xG} {fr lo : Nat} {x0 : Nat} {x1 : Int32} {x2 : Int32} {h : xH} {Q : Outcome → xH → Prop} (hq : bX11_hasRoom G fr lo x0 x1 x2 h Q) : xP G YX11_hasRoom fr lo 0 [(0, rv x0), (1, .int x1), (2, .int x2)] [] h Q := by
  unfold bX11_hasRoom at hq
  refine x_aload_n 0 dX11_hasRoom_0 rfl ?_
  obtain ⟨g1, hq⟩ := hq
  refine x_get (v := rv (fR h x0 2821)) fdX11_24 dX11_hasRoom_1 g1 rfl ?_
  refine x_iload_n 1 dX11_hasRoom_4 rfl ?_
  obtain ⟨g2, hq⟩ := hq
  obtain ⟨i3, hq⟩ := hq
  refine x_iald 0 (Or.inl rfl) g2 i3 dX11_hasRoom_5 ?_
  refine x_iload_n 2 dX11_hasRoom_6 rfl ?_
  refine x_iadd dX11_hasRoom_7 ?_
  refine x_sipush (v := 3000) dX11_hasRoom_8 (by decide) ?_
  refine x_icmp_gt (tgt := 30) dX11_hasRoom_11 (by decide) (fun c4 => ?_) (fun c4 => ?_)
  · replace hq := hq.1 c4
    refine xP.pick (lv' := []) [] rfl ?_
    exact uX11_hasRoom_30 hq
  · replace hq := hq.2 c4
    refine x_aload_n 0 dX11_hasRoom_14 rfl ?_
    refine x_get (v := .int (fI h x0 2831)) fdX11_63 dX11_hasRoom_15 g1 rfl ?_
    refine x_iload_n 2 dX11_hasRoom_18 rfl ?_
    refine x_iadd dX11_hasRoom_19 ?_
    refine x_sipush (v := 30000) dX11_hasRoom_20 (by decide) ?_
    refine x_icmp_gt (tgt := 30) dX11_hasRoom_23 (by decide) (fun c5 => ?_) (fun c5 => ?_)
    · replace hq := hq.1 c5
      refine xP.pick (lv' := []) [] rfl ?_
      exact uX11_hasRoom_30 hq
    · replace hq := hq.2 c5
      refine x_iconst (v := 1) dX11_hasRoom_26 (by decide) ?_
      refine x_goto (tgt := 31) dX11_hasRoom_27 (by decide) ?_
      refine xP.pick (lv' := []) [] rfl ?_
      exact uX11_hasRoom_31 hq
theorem rX11_hasRoom {G : xG} {fr lo : Nat} {x0 : Nat} {x1 : Int32} {x2 : Int32} {h : xH} {Q : Outcome → xH → Prop} (hq : bX11_hasRoom G fr lo x0 x1 x2 h Q) : xR G YX11_hasRoom fr lo [rv x0, .int x1, .int x2] h Q := by
  show xP _ _ _ _ _ (lv_args 0 _) _ _ _
  rw [show lv_args 0 [rv x0, .int x1, .int x2] = [(0, rv x0), (1, .int x1), (2, .int x2)] from (xla1 (rv_cat _) (xla1 rfl (xla1 rfl xla0)))]
  exact uX11_hasRoom hq
set_option maxRecDepth 100000 in
theorem dX11_here_0 : decode cX11_here 0 = .ok (.aload_n 0, 1) := by decide +kernel
set_option maxRecDepth 100000 in
theorem dX11_here_1 : decode cX11_here 1 = .ok (.getfield 21, 3) := by decide +kernel
set_option maxRecDepth 100000 in
theorem dX11_here_4 : decode cX11_here 4 = .ok (.iload_n 1, 1) := by decide +kernel
set_option maxRecDepth 100000 in
theorem dX11_here_5 : decode cX11_here 5 = .ok (.iaload, 1) := by decide +kernel
set_option maxRecDepth 100000 in
theorem dX11_here_6 : decode cX11_here 6 = .ok (.iconst (-1), 1) := by decide +kernel
set_option maxRecDepth 100000 in
theorem dX11_here_7 : decode cX11_here 7 = .ok (.if_icmp .ne 7, 3) := by decide +kernel
set_option maxRecDepth 100000 in
theorem dX11_here_10 : decode cX11_here 10 = .ok (.iconst (-1), 1) := by decide +kernel
set_option maxRecDepth 100000 in
theorem dX11_here_11 : decode cX11_here 11 = .ok (.goto 15, 3) := by decide +kernel
set_option maxRecDepth 100000 in
theorem dX11_here_14 : decode cX11_here 14 = .ok (.aload_n 0, 1) := by decide +kernel
set_option maxRecDepth 100000 in
theorem dX11_here_15 : decode cX11_here 15 = .ok (.getfield 41, 3) := by decide +kernel
set_option maxRecDepth 100000 in
theorem dX11_here_18 : decode cX11_here 18 = .ok (.aload_n 0, 1) := by decide +kernel
set_option maxRecDepth 100000 in
theorem dX11_here_19 : decode cX11_here 19 = .ok (.getfield 21, 3) := by decide +kernel
set_option maxRecDepth 100000 in
theorem dX11_here_22 : decode cX11_here 22 = .ok (.iload_n 1, 1) := by decide +kernel
set_option maxRecDepth 100000 in
theorem dX11_here_23 : decode cX11_here 23 = .ok (.iaload, 1) := by decide +kernel
set_option maxRecDepth 100000 in
theorem dX11_here_24 : decode cX11_here 24 = .ok (.laload, 1) := by decide +kernel
set_option maxRecDepth 100000 in
theorem dX11_here_25 : decode cX11_here 25 = .ok (.l2i, 1) := by decide +kernel
set_option maxRecDepth 100000 in
theorem dX11_here_26 : decode cX11_here 26 = .ok (.ireturn, 1) := by decide +kernel
set_option maxRecDepth 100000 in
def bX11_here_26 (G : xG) (fr lo : Nat) (s0 : Int32) (h : xH) (Q : Outcome → xH → Prop) : Prop := Q (.returned (some (.int s0))) h
set_option maxRecDepth 100000 in
theorem uX11_here_26 {G : xG} {fr lo : Nat} {s0 : Int32} {h : xH} {Q : Outcome → xH → Prop} (hq : bX11_here_26 G fr lo s0 h Q) : xP G YX11_here fr lo 26 [] [.int s0] h Q := by
  unfold bX11_here_26 at hq
  exact x_iret rfl rfl dX11_here_26 hq
set_option maxRecDepth 100000 in
def bX11_here (G : xG) (fr lo : Nat) (x0 : Nat) (x1 : Int32) (h : xH) (Q : Outcome → xH → Prop) : Prop := tg h x0 = 12 ∧ tg h (fR h x0 2820) = 100 ∧ vp_in x1 (ln h (fR h x0 2820)) ∧ ((¬ (aI h (fR h x0 2820) (Int32.toNatClampNeg x1)) = (-1) → vp_in x1 (ln h (fR h x0 2820)) ∧ tg h (fR h x0 2826) = 101 ∧ vp_in (aI h (fR h x0 2820) (Int32.toNatClampNeg x1)) (ln h (fR h x0 2826)) ∧ bX11_here_26 G fr lo (Int64.toInt32 (aJ h (fR h x0 2826) (Int32.toNatClampNeg (aI h (fR h x0 2820) (Int32.toNatClampNeg x1))))) h Q) ∧ ((aI h (fR h x0 2820) (Int32.toNatClampNeg x1)) = (-1) → bX11_here_26 G fr lo (-1) h Q))
set_option maxRecDepth 100000 in
theorem uX11_here {G : xG} {fr lo : Nat} {x0 : Nat} {x1 : Int32} {h : xH} {Q : Outcome → xH → Prop} (hq : bX11_here G fr lo x0 x1 h Q) : xP G YX11_here fr lo 0 [(0, rv x0), (1, .int x1)] [] h Q := by
  unfold bX11_here at hq
  refine x_aload_n 0 dX11_here_0 rfl ?_
  obtain ⟨g1, hq⟩ := hq
  refine x_get (v := rv (fR h x0 2820)) fdX11_21 dX11_here_1 g1 rfl ?_
  refine x_iload_n 1 dX11_here_4 rfl ?_
  obtain ⟨g2, hq⟩ := hq
  obtain ⟨i3, hq⟩ := hq
  refine x_iald 0 (Or.inl rfl) g2 i3 dX11_here_5 ?_
  refine x_iconst (v := (-1)) dX11_here_6 (by decide) ?_
  refine x_icmp_ne (tgt := 14) dX11_here_7 (by decide) (fun c4 => ?_) (fun c4 => ?_)
  · replace hq := hq.1 c4
    refine x_aload_n 0 dX11_here_14 rfl ?_
    refine x_get (v := rv (fR h x0 2826)) fdX11_41 dX11_here_15 g1 rfl ?_
    refine x_aload_n 0 dX11_here_18 rfl ?_
    refine x_get (v := rv (fR h x0 2820)) fdX11_21 dX11_here_19 g1 rfl ?_
    refine x_iload_n 1 dX11_here_22 rfl ?_
    obtain ⟨i5, hq⟩ := hq
    refine x_iald 0 (Or.inl rfl) g2 i5 dX11_here_23 ?_
    obtain ⟨g6, hq⟩ := hq
    obtain ⟨i7, hq⟩ := hq
    refine x_lald g6 i7 dX11_here_24 ?_
    refine x_l2i dX11_here_25 ?_
    refine xP.pick (lv' := []) [] rfl ?_
    exact uX11_here_26 hq
  · replace hq := hq.2 c4
    refine x_iconst (v := (-1)) dX11_here_10 (by decide) ?_
    refine x_goto (tgt := 26) dX11_here_11 (by decide) ?_
    refine xP.pick (lv' := []) [] rfl ?_
    exact uX11_here_26 hq
theorem rX11_here {G : xG} {fr lo : Nat} {x0 : Nat} {x1 : Int32} {h : xH} {Q : Outcome → xH → Prop} (hq : bX11_here G fr lo x0 x1 h Q) : xR G YX11_here fr lo [rv x0, .int x1] h Q := by
  show xP _ _ _ _ _ (lv_args 0 _) _ _ _
  rw [show lv_args 0 [rv x0, .int x1] = [(0, rv x0), (1, .int x1)] from (xla1 (rv_cat _) (xla1 rfl xla0))]
  exact uX11_here hq
set_option maxRecDepth 100000 in
theorem dX11_goOn_0 : decode cX11_goOn 0 = .ok (.iconst 0, 1) := by decide +kernel
set_option maxRecDepth 100000 in
theorem dX11_goOn_1 : decode cX11_goOn 1 = .ok (.istore_n 2, 1) := by decide +kernel
set_option maxRecDepth 100000 in
theorem dX11_goOn_2 : decode cX11_goOn 2 = .ok (.iload_n 2, 1) := by decide +kernel
set_option maxRecDepth 100000 in
theorem dX11_goOn_3 : decode cX11_goOn 3 = .ok (.aload_n 0, 1) := by decide +kernel
set_option maxRecDepth 100000 in
theorem dX11_goOn_4 : decode cX11_goOn 4 = .ok (.getfield 27, 3) := by decide +kernel
set_option maxRecDepth 100000 in
theorem dX11_goOn_7 : decode cX11_goOn 7 = .ok (.iload_n 1, 1) := by decide +kernel
set_option maxRecDepth 100000 in
theorem dX11_goOn_8 : decode cX11_goOn 8 = .ok (.iaload, 1) := by decide +kernel
set_option maxRecDepth 100000 in
theorem dX11_goOn_9 : decode cX11_goOn 9 = .ok (.if_icmp .ge 36, 3) := by decide +kernel
set_option maxRecDepth 100000 in
theorem dX11_goOn_12 : decode cX11_goOn 12 = .ok (.aload_n 0, 1) := by decide +kernel
set_option maxRecDepth 100000 in
theorem dX11_goOn_13 : decode cX11_goOn 13 = .ok (.getfield 21, 3) := by decide +kernel
set_option maxRecDepth 100000 in
theorem dX11_goOn_16 : decode cX11_goOn 16 = .ok (.iload_n 1, 1) := by decide +kernel
set_option maxRecDepth 100000 in
theorem dX11_goOn_17 : decode cX11_goOn 17 = .ok (.iaload, 1) := by decide +kernel
set_option maxRecDepth 100000 in
theorem dX11_goOn_18 : decode cX11_goOn 18 = .ok (.iconst (-1), 1) := by decide +kernel
set_option maxRecDepth 100000 in
theorem dX11_goOn_19 : decode cX11_goOn 19 = .ok (.if_icmp .eq 26, 3) := by decide +kernel
set_option maxRecDepth 100000 in
theorem dX11_goOn_22 : decode cX11_goOn 22 = .ok (.aload_n 0, 1) := by decide +kernel
set_option maxRecDepth 100000 in
theorem dX11_goOn_23 : decode cX11_goOn 23 = .ok (.getfield 21, 3) := by decide +kernel
set_option maxRecDepth 100000 in
theorem dX11_goOn_26 : decode cX11_goOn 26 = .ok (.iload_n 1, 1) := by decide +kernel
set_option maxRecDepth 100000 in
theorem dX11_goOn_27 : decode cX11_goOn 27 = .ok (.aload_n 0, 1) := by decide +kernel
set_option maxRecDepth 100000 in
theorem dX11_goOn_28 : decode cX11_goOn 28 = .ok (.getfield 38, 3) := by decide +kernel
set_option maxRecDepth 100000 in
theorem dX11_goOn_31 : decode cX11_goOn 31 = .ok (.aload_n 0, 1) := by decide +kernel
set_option maxRecDepth 100000 in
theorem dX11_goOn_32 : decode cX11_goOn 32 = .ok (.getfield 21, 3) := by decide +kernel
set_option maxRecDepth 100000 in
theorem dX11_goOn_35 : decode cX11_goOn 35 = .ok (.iload_n 1, 1) := by decide +kernel
set_option maxRecDepth 100000 in
theorem dX11_goOn_36 : decode cX11_goOn 36 = .ok (.iaload, 1) := by decide +kernel
set_option maxRecDepth 100000 in
theorem dX11_goOn_37 : decode cX11_goOn 37 = .ok (.iaload, 1) := by decide +kernel
set_option maxRecDepth 100000 in
theorem dX11_goOn_38 : decode cX11_goOn 38 = .ok (.iastore, 1) := by decide +kernel
set_option maxRecDepth 100000 in
theorem dX11_goOn_39 : decode cX11_goOn 39 = .ok (.iinc 2 1, 3) := by decide +kernel
set_option maxRecDepth 100000 in
theorem dX11_goOn_42 : decode cX11_goOn 42 = .ok (.goto (-40), 3) := by decide +kernel
set_option maxRecDepth 100000 in
theorem dX11_goOn_45 : decode cX11_goOn 45 = .ok (.return_, 1) := by decide +kernel
def lX11_goOn_2 (G : xG) (fr lo : Nat) (x0 : Nat) (x1 : Int32) (x2 : Int32) (h : xH) (Q : Outcome → xH → Prop) : Prop := xP G YX11_goOn fr lo 2 [(0, rv x0), (1, .int x1), (2, .int x2)] [] h Q
set_option maxRecDepth 100000 in
def bX11_goOn_45 (G : xG) (fr lo : Nat) (h : xH) (Q : Outcome → xH → Prop) : Prop := Q (.returned none) h
set_option maxRecDepth 100000 in
theorem uX11_goOn_45 {G : xG} {fr lo : Nat} {h : xH} {Q : Outcome → xH → Prop} (hq : bX11_goOn_45 G fr lo h Q) : xP G YX11_goOn fr lo 45 [] [] h Q := by
  unfold bX11_goOn_45 at hq
  exact x_vret rfl dX11_goOn_45 hq
set_option maxRecDepth 100000 in
def bX11_goOn_2 (G : xG) (fr lo : Nat) (x0 : Nat) (x1 : Int32) (x2 : Int32) (h : xH) (Q : Outcome → xH → Prop) : Prop := tg h x0 = 12 ∧ tg h (fR h x0 2822) = 100 ∧ vp_in x1 (ln h (fR h x0 2822)) ∧ (((aI h (fR h x0 2822) (Int32.toNatClampNeg x1)) ≤ x2 → bX11_goOn_45 G fr lo h Q) ∧ (¬ (aI h (fR h x0 2822) (Int32.toNatClampNeg x1)) ≤ x2 → tg h (fR h x0 2820) = 100 ∧ vp_in x1 (ln h (fR h x0 2820)) ∧ (((aI h (fR h x0 2820) (Int32.toNatClampNeg x1)) = (-1) → bX11_goOn_45 G fr lo h Q) ∧ (¬ (aI h (fR h x0 2820) (Int32.toNatClampNeg x1)) = (-1) → vp_in x1 (ln h (fR h x0 2820)) ∧ tg h (fR h x0 2825) = 100 ∧ vp_in (aI h (fR h x0 2820) (Int32.toNatClampNeg x1)) (ln h (fR h x0 2825)) ∧ vp_in x1 (ln h (fR h x0 2820)) ∧ (∀ h12 : xH, h12 = tI h (fR h x0 2820) (Int32.toNatClampNeg x1) (aI h (fR h x0 2825) (Int32.toNatClampNeg (aI h (fR h x0 2820) (Int32.toNatClampNeg x1)))) → lX11_goOn_2 G fr lo x0 x1 (x2 + 1) h12 Q)))))
set_option maxRecDepth 100000 in
theorem uX11_goOn_2 {G : xG} {fr lo : Nat} {x0 : Nat} {x1 : Int32} {x2 : Int32} {h : xH} {Q : Outcome → xH → Prop} (hq : bX11_goOn_2 G fr lo x0 x1 x2 h Q) : xP G YX11_goOn fr lo 2 [(0, rv x0), (1, .int x1), (2, .int x2)] [] h Q := by
  unfold bX11_goOn_2 at hq
  refine x_iload_n 2 dX11_goOn_2 rfl ?_
  refine x_aload_n 0 dX11_goOn_3 rfl ?_
  obtain ⟨g1, hq⟩ := hq
  refine x_get (v := rv (fR h x0 2822)) fdX11_27 dX11_goOn_4 g1 rfl ?_
  refine x_iload_n 1 dX11_goOn_7 rfl ?_
  obtain ⟨g2, hq⟩ := hq
  obtain ⟨i3, hq⟩ := hq
  refine x_iald 0 (Or.inl rfl) g2 i3 dX11_goOn_8 ?_
  refine x_icmp_ge (tgt := 45) dX11_goOn_9 (by decide) (fun c4 => ?_) (fun c4 => ?_)
  · replace hq := hq.1 c4
    refine xP.pick (lv' := []) [] rfl ?_
    exact uX11_goOn_45 hq
  · replace hq := hq.2 c4
    refine x_aload_n 0 dX11_goOn_12 rfl ?_
    refine x_get (v := rv (fR h x0 2820)) fdX11_21 dX11_goOn_13 g1 rfl ?_
    refine x_iload_n 1 dX11_goOn_16 rfl ?_
    obtain ⟨g5, hq⟩ := hq
    obtain ⟨i6, hq⟩ := hq
    refine x_iald 0 (Or.inl rfl) g5 i6 dX11_goOn_17 ?_
    refine x_iconst (v := (-1)) dX11_goOn_18 (by decide) ?_
    refine x_icmp_eq (tgt := 45) dX11_goOn_19 (by decide) (fun c7 => ?_) (fun c7 => ?_)
    · replace hq := hq.1 c7
      refine xP.pick (lv' := []) [] rfl ?_
      exact uX11_goOn_45 hq
    · replace hq := hq.2 c7
      refine x_aload_n 0 dX11_goOn_22 rfl ?_
      refine x_get (v := rv (fR h x0 2820)) fdX11_21 dX11_goOn_23 g1 rfl ?_
      refine x_iload_n 1 dX11_goOn_26 rfl ?_
      refine x_aload_n 0 dX11_goOn_27 rfl ?_
      refine x_get (v := rv (fR h x0 2825)) fdX11_38 dX11_goOn_28 g1 rfl ?_
      refine x_aload_n 0 dX11_goOn_31 rfl ?_
      refine x_get (v := rv (fR h x0 2820)) fdX11_21 dX11_goOn_32 g1 rfl ?_
      refine x_iload_n 1 dX11_goOn_35 rfl ?_
      obtain ⟨i8, hq⟩ := hq
      refine x_iald 0 (Or.inl rfl) g5 i8 dX11_goOn_36 ?_
      obtain ⟨g9, hq⟩ := hq
      obtain ⟨i10, hq⟩ := hq
      refine x_iald 0 (Or.inl rfl) g9 i10 dX11_goOn_37 ?_
      obtain ⟨i11, hq⟩ := hq
      obtain ⟨h12, e13⟩ : ∃ y, y = tI h (fR h x0 2820) (Int32.toNatClampNeg x1) (aI h (fR h x0 2825) (Int32.toNatClampNeg (aI h (fR h x0 2820) (Int32.toNatClampNeg x1)))) := ⟨_, rfl⟩
      replace hq := hq h12 e13
      refine x_iast' g5 i11 dX11_goOn_38 e13 ?_
      refine x_iinc (lv' := [(2, .int (x2 + 1)), (0, rv x0), (1, .int x1)]) 2 dX11_goOn_39 rfl (by decide) rfl ?_
      refine x_goto (tgt := 2) dX11_goOn_42 (by decide) ?_
      refine xP.pick (lv' := [(0, rv x0), (1, .int x1), (2, .int (x2 + 1))]) [1, 2, 0] rfl ?_
      exact hq
set_option maxRecDepth 100000 in
def bX11_goOn (G : xG) (fr lo : Nat) (x0 : Nat) (x1 : Int32) (h : xH) (Q : Outcome → xH → Prop) : Prop := lX11_goOn_2 G fr lo x0 x1 0 h Q
set_option maxRecDepth 100000 in
theorem uX11_goOn {G : xG} {fr lo : Nat} {x0 : Nat} {x1 : Int32} {h : xH} {Q : Outcome → xH → Prop} (hq : bX11_goOn G fr lo x0 x1 h Q) : xP G YX11_goOn fr lo 0 [(0, rv x0), (1, .int x1)] [] h Q := by
  unfold bX11_goOn at hq
  refine x_iconst (v := 0) dX11_goOn_0 (by decide) ?_
  refine x_istore_n (lv' := [(2, .int 0), (0, rv x0), (1, .int x1)]) dX11_goOn_1 (by decide) rfl ?_
  refine xP.pick (lv' := [(0, rv x0), (1, .int x1), (2, .int 0)]) [1, 2, 0] rfl ?_
  exact hq
theorem rX11_goOn {G : xG} {fr lo : Nat} {x0 : Nat} {x1 : Int32} {h : xH} {Q : Outcome → xH → Prop} (hq : bX11_goOn G fr lo x0 x1 h Q) : xR G YX11_goOn fr lo [rv x0, .int x1] h Q := by
  show xP _ _ _ _ _ (lv_args 0 _) _ _ _
  rw [show lv_args 0 [rv x0, .int x1] = [(0, rv x0), (1, .int x1)] from (xla1 (rv_cat _) (xla1 rfl xla0))]
  exact uX11_goOn hq
set_option maxRecDepth 100000 in
theorem dX11_addBuffer_0 : decode cX11_addBuffer 0 = .ok (.iconst 0, 1) := by decide +kernel
set_option maxRecDepth 100000 in
theorem dX11_addBuffer_1 : decode cX11_addBuffer 1 = .ok (.istore_n 2, 1) := by decide +kernel
set_option maxRecDepth 100000 in
theorem dX11_addBuffer_2 : decode cX11_addBuffer 2 = .ok (.iload_n 2, 1) := by decide +kernel
set_option maxRecDepth 100000 in
theorem dX11_addBuffer_3 : decode cX11_addBuffer 3 = .ok (.aload_n 0, 1) := by decide +kernel
set_option maxRecDepth 100000 in
theorem dX11_addBuffer_4 : decode cX11_addBuffer 4 = .ok (.getfield 27, 3) := by decide +kernel
set_option maxRecDepth 100000 in
theorem dX11_addBuffer_7 : decode cX11_addBuffer 7 = .ok (.iload_n 1, 1) := by decide +kernel
set_option maxRecDepth 100000 in
theorem dX11_addBuffer_8 : decode cX11_addBuffer 8 = .ok (.iaload, 1) := by decide +kernel
set_option maxRecDepth 100000 in
theorem dX11_addBuffer_9 : decode cX11_addBuffer 9 = .ok (.if_icmp .ge 91, 3) := by decide +kernel
set_option maxRecDepth 100000 in
theorem dX11_addBuffer_12 : decode cX11_addBuffer 12 = .ok (.aload_n 0, 1) := by decide +kernel
set_option maxRecDepth 100000 in
theorem dX11_addBuffer_13 : decode cX11_addBuffer 13 = .ok (.iload_n 1, 1) := by decide +kernel
set_option maxRecDepth 100000 in
theorem dX11_addBuffer_14 : decode cX11_addBuffer 14 = .ok (.invokevirtual 78, 3) := by decide +kernel
set_option maxRecDepth 100000 in
theorem dX11_addBuffer_17 : decode cX11_addBuffer 17 = .ok (.istore_n 3, 1) := by decide +kernel
set_option maxRecDepth 100000 in
theorem dX11_addBuffer_18 : decode cX11_addBuffer 18 = .ok (.aload_n 0, 1) := by decide +kernel
set_option maxRecDepth 100000 in
theorem dX11_addBuffer_19 : decode cX11_addBuffer 19 = .ok (.getfield 41, 3) := by decide +kernel
set_option maxRecDepth 100000 in
theorem dX11_addBuffer_22 : decode cX11_addBuffer 22 = .ok (.iload_n 3, 1) := by decide +kernel
set_option maxRecDepth 100000 in
theorem dX11_addBuffer_23 : decode cX11_addBuffer 23 = .ok (.aload_n 0, 1) := by decide +kernel
set_option maxRecDepth 100000 in
theorem dX11_addBuffer_24 : decode cX11_addBuffer 24 = .ok (.getfield 55, 3) := by decide +kernel
set_option maxRecDepth 100000 in
theorem dX11_addBuffer_27 : decode cX11_addBuffer 27 = .ok (.getfield 82, 3) := by decide +kernel
set_option maxRecDepth 100000 in
theorem dX11_addBuffer_30 : decode cX11_addBuffer 30 = .ok (.iload_n 1, 1) := by decide +kernel
set_option maxRecDepth 100000 in
theorem dX11_addBuffer_31 : decode cX11_addBuffer 31 = .ok (.iconst 1, 1) := by decide +kernel
set_option maxRecDepth 100000 in
theorem dX11_addBuffer_32 : decode cX11_addBuffer 32 = .ok (.iadd, 1) := by decide +kernel
set_option maxRecDepth 100000 in
theorem dX11_addBuffer_33 : decode cX11_addBuffer 33 = .ok (.iload_n 2, 1) := by decide +kernel
set_option maxRecDepth 100000 in
theorem dX11_addBuffer_34 : decode cX11_addBuffer 34 = .ok (.iadd, 1) := by decide +kernel
set_option maxRecDepth 100000 in
theorem dX11_addBuffer_35 : decode cX11_addBuffer 35 = .ok (.laload, 1) := by decide +kernel
set_option maxRecDepth 100000 in
theorem dX11_addBuffer_36 : decode cX11_addBuffer 36 = .ok (.lastore, 1) := by decide +kernel
set_option maxRecDepth 100000 in
theorem dX11_addBuffer_37 : decode cX11_addBuffer 37 = .ok (.aload_n 0, 1) := by decide +kernel
set_option maxRecDepth 100000 in
theorem dX11_addBuffer_38 : decode cX11_addBuffer 38 = .ok (.getfield 45, 3) := by decide +kernel
set_option maxRecDepth 100000 in
theorem dX11_addBuffer_41 : decode cX11_addBuffer 41 = .ok (.iload_n 3, 1) := by decide +kernel
set_option maxRecDepth 100000 in
theorem dX11_addBuffer_42 : decode cX11_addBuffer 42 = .ok (.aload_n 0, 1) := by decide +kernel
set_option maxRecDepth 100000 in
theorem dX11_addBuffer_43 : decode cX11_addBuffer 43 = .ok (.getfield 55, 3) := by decide +kernel
set_option maxRecDepth 100000 in
theorem dX11_addBuffer_46 : decode cX11_addBuffer 46 = .ok (.getfield 85, 3) := by decide +kernel
set_option maxRecDepth 100000 in
theorem dX11_addBuffer_49 : decode cX11_addBuffer 49 = .ok (.iload_n 1, 1) := by decide +kernel
set_option maxRecDepth 100000 in
theorem dX11_addBuffer_50 : decode cX11_addBuffer 50 = .ok (.iconst 1, 1) := by decide +kernel
set_option maxRecDepth 100000 in
theorem dX11_addBuffer_51 : decode cX11_addBuffer 51 = .ok (.iadd, 1) := by decide +kernel
set_option maxRecDepth 100000 in
theorem dX11_addBuffer_52 : decode cX11_addBuffer 52 = .ok (.iload_n 2, 1) := by decide +kernel
set_option maxRecDepth 100000 in
theorem dX11_addBuffer_53 : decode cX11_addBuffer 53 = .ok (.iadd, 1) := by decide +kernel
set_option maxRecDepth 100000 in
theorem dX11_addBuffer_54 : decode cX11_addBuffer 54 = .ok (.laload, 1) := by decide +kernel
set_option maxRecDepth 100000 in
theorem dX11_addBuffer_55 : decode cX11_addBuffer 55 = .ok (.lastore, 1) := by decide +kernel
set_option maxRecDepth 100000 in
theorem dX11_addBuffer_56 : decode cX11_addBuffer 56 = .ok (.aload_n 0, 1) := by decide +kernel
set_option maxRecDepth 100000 in
theorem dX11_addBuffer_57 : decode cX11_addBuffer 57 = .ok (.getfield 48, 3) := by decide +kernel
set_option maxRecDepth 100000 in
theorem dX11_addBuffer_60 : decode cX11_addBuffer 60 = .ok (.iload_n 3, 1) := by decide +kernel
set_option maxRecDepth 100000 in
theorem dX11_addBuffer_61 : decode cX11_addBuffer 61 = .ok (.aload_n 0, 1) := by decide +kernel
set_option maxRecDepth 100000 in
theorem dX11_addBuffer_62 : decode cX11_addBuffer 62 = .ok (.getfield 55, 3) := by decide +kernel
set_option maxRecDepth 100000 in
theorem dX11_addBuffer_65 : decode cX11_addBuffer 65 = .ok (.getfield 86, 3) := by decide +kernel
set_option maxRecDepth 100000 in
theorem dX11_addBuffer_68 : decode cX11_addBuffer 68 = .ok (.iload_n 1, 1) := by decide +kernel
set_option maxRecDepth 100000 in
theorem dX11_addBuffer_69 : decode cX11_addBuffer 69 = .ok (.iconst 1, 1) := by decide +kernel
set_option maxRecDepth 100000 in
theorem dX11_addBuffer_70 : decode cX11_addBuffer 70 = .ok (.iadd, 1) := by decide +kernel
set_option maxRecDepth 100000 in
theorem dX11_addBuffer_71 : decode cX11_addBuffer 71 = .ok (.iload_n 2, 1) := by decide +kernel
set_option maxRecDepth 100000 in
theorem dX11_addBuffer_72 : decode cX11_addBuffer 72 = .ok (.iadd, 1) := by decide +kernel
set_option maxRecDepth 100000 in
theorem dX11_addBuffer_73 : decode cX11_addBuffer 73 = .ok (.daload, 1) := by decide +kernel
set_option maxRecDepth 100000 in
theorem dX11_addBuffer_74 : decode cX11_addBuffer 74 = .ok (.dastore, 1) := by decide +kernel
set_option maxRecDepth 100000 in
theorem dX11_addBuffer_75 : decode cX11_addBuffer 75 = .ok (.aload_n 0, 1) := by decide +kernel
set_option maxRecDepth 100000 in
theorem dX11_addBuffer_76 : decode cX11_addBuffer 76 = .ok (.getfield 52, 3) := by decide +kernel
set_option maxRecDepth 100000 in
theorem dX11_addBuffer_79 : decode cX11_addBuffer 79 = .ok (.iload_n 3, 1) := by decide +kernel
set_option maxRecDepth 100000 in
theorem dX11_addBuffer_80 : decode cX11_addBuffer 80 = .ok (.aload_n 0, 1) := by decide +kernel
set_option maxRecDepth 100000 in
theorem dX11_addBuffer_81 : decode cX11_addBuffer 81 = .ok (.getfield 55, 3) := by decide +kernel
set_option maxRecDepth 100000 in
theorem dX11_addBuffer_84 : decode cX11_addBuffer 84 = .ok (.getfield 87, 3) := by decide +kernel
set_option maxRecDepth 100000 in
theorem dX11_addBuffer_87 : decode cX11_addBuffer 87 = .ok (.iload_n 1, 1) := by decide +kernel
set_option maxRecDepth 100000 in
theorem dX11_addBuffer_88 : decode cX11_addBuffer 88 = .ok (.iconst 1, 1) := by decide +kernel
set_option maxRecDepth 100000 in
theorem dX11_addBuffer_89 : decode cX11_addBuffer 89 = .ok (.iadd, 1) := by decide +kernel
set_option maxRecDepth 100000 in
theorem dX11_addBuffer_90 : decode cX11_addBuffer 90 = .ok (.iload_n 2, 1) := by decide +kernel
set_option maxRecDepth 100000 in
theorem dX11_addBuffer_91 : decode cX11_addBuffer 91 = .ok (.iadd, 1) := by decide +kernel
set_option maxRecDepth 100000 in
theorem dX11_addBuffer_92 : decode cX11_addBuffer 92 = .ok (.baload, 1) := by decide +kernel
set_option maxRecDepth 100000 in
theorem dX11_addBuffer_93 : decode cX11_addBuffer 93 = .ok (.bastore, 1) := by decide +kernel
set_option maxRecDepth 100000 in
theorem dX11_addBuffer_94 : decode cX11_addBuffer 94 = .ok (.iinc 2 1, 3) := by decide +kernel
set_option maxRecDepth 100000 in
theorem dX11_addBuffer_97 : decode cX11_addBuffer 97 = .ok (.goto (-95), 3) := by decide +kernel
set_option maxRecDepth 100000 in
theorem dX11_addBuffer_100 : decode cX11_addBuffer 100 = .ok (.return_, 1) := by decide +kernel
def lX11_addBuffer_2 (G : xG) (fr lo : Nat) (x0 : Nat) (x1 : Int32) (x2 : Int32) (h : xH) (Q : Outcome → xH → Prop) : Prop := xP G YX11_addBuffer fr lo 2 [(0, rv x0), (1, .int x1), (2, .int x2)] [] h Q
set_option maxRecDepth 100000 in
def bX11_addBuffer_2 (G : xG) (fr lo : Nat) (x0 : Nat) (x1 : Int32) (x2 : Int32) (h : xH) (Q : Outcome → xH → Prop) : Prop := tg h x0 = 12 ∧ tg h (fR h x0 2822) = 100 ∧ vp_in x1 (ln h (fR h x0 2822)) ∧ (((aI h (fR h x0 2822) (Int32.toNatClampNeg x1)) ≤ x2 → Q (.returned none) h) ∧ (¬ (aI h (fR h x0 2822) (Int32.toNatClampNeg x1)) ≤ x2 → 1 ≤ fr ∧ 14 ≤ lo ∧ xRi G YX11_node (fr - 1) (lo - 14) [rv x0, .int x1] h (fun x8 h7 => xext h h7 → tg h7 (fR h7 x0 2816) = 11 ∧ tg h7 (fR h7 (fR h7 x0 2816) 2560) = 101 ∧ vp_in ((x1 + 1) + x2) (ln h7 (fR h7 (fR h7 x0 2816) 2560)) ∧ tg h7 (fR h7 x0 2826) = 101 ∧ vp_in x8 (ln h7 (fR h7 x0 2826)) ∧ (∀ h16 : xH, h16 = tJ h7 (fR h7 x0 2826) (Int32.toNatClampNeg x8) (aJ h7 (fR h7 (fR h7 x0 2816) 2560) (Int32.toNatClampNeg ((x1 + 1) + x2))) → tg h16 (fR h16 x0 2816) = 11 ∧ tg h16 (fR h16 (fR h16 x0 2816) 2561) = 101 ∧ vp_in ((x1 + 1) + x2) (ln h16 (fR h16 (fR h16 x0 2816) 2561)) ∧ tg h16 (fR h16 x0 2827) = 101 ∧ vp_in x8 (ln h16 (fR h16 x0 2827)) ∧ (∀ h24 : xH, h24 = tJ h16 (fR h16 x0 2827) (Int32.toNatClampNeg x8) (aJ h16 (fR h16 (fR h16 x0 2816) 2561) (Int32.toNatClampNeg ((x1 + 1) + x2))) → tg h24 (fR h24 x0 2816) = 11 ∧ tg h24 (fR h24 (fR h24 x0 2816) 2562) = 102 ∧ vp_in ((x1 + 1) + x2) (ln h24 (fR h24 (fR h24 x0 2816) 2562)) ∧ tg h24 (fR h24 x0 2828) = 102 ∧ vp_in x8 (ln h24 (fR h24 x0 2828)) ∧ (∀ h32 : xH, h32 = tD h24 (fR h24 x0 2828) (Int32.toNatClampNeg x8) (aD h24 (fR h24 (fR h24 x0 2816) 2562) (Int32.toNatClampNeg ((x1 + 1) + x2))) → tg h32 (fR h32 x0 2816) = 11 ∧ tg h32 (fR h32 (fR h32 x0 2816) 2563) = 104 ∧ vp_in ((x1 + 1) + x2) (ln h32 (fR h32 (fR h32 x0 2816) 2563)) ∧ tg h32 (fR h32 x0 2829) = 104 ∧ vp_in x8 (ln h32 (fR h32 x0 2829)) ∧ (∀ h40 : xH, h40 = tI h32 (fR h32 x0 2829) (Int32.toNatClampNeg x8) (vp_nar .boolean (aI h32 (fR h32 (fR h32 x0 2816) 2563) (Int32.toNatClampNeg ((x1 + 1) + x2)))) → lX11_addBuffer_2 G fr lo x0 x1 (x2 + 1) h40 Q))))) (fun r h2 => Q (.threw r) h2)))
set_option maxRecDepth 100000 in
theorem uX11_addBuffer_2 {G : xG} {fr lo : Nat} {x0 : Nat} {x1 : Int32} {x2 : Int32} {h : xH} {Q : Outcome → xH → Prop} (hq : bX11_addBuffer_2 G fr lo x0 x1 x2 h Q) : xP G YX11_addBuffer fr lo 2 [(0, rv x0), (1, .int x1), (2, .int x2)] [] h Q := by
  unfold bX11_addBuffer_2 at hq
  refine x_iload_n 2 dX11_addBuffer_2 rfl ?_
  refine x_aload_n 0 dX11_addBuffer_3 rfl ?_
  obtain ⟨g1, hq⟩ := hq
  refine x_get (v := rv (fR h x0 2822)) fdX11_27 dX11_addBuffer_4 g1 rfl ?_
  refine x_iload_n 1 dX11_addBuffer_7 rfl ?_
  obtain ⟨g2, hq⟩ := hq
  obtain ⟨i3, hq⟩ := hq
  refine x_iald 0 (Or.inl rfl) g2 i3 dX11_addBuffer_8 ?_
  refine x_icmp_ge (tgt := 100) dX11_addBuffer_9 (by decide) (fun c4 => ?_) (fun c4 => ?_)
  · replace hq := hq.1 c4
    exact x_vret rfl dX11_addBuffer_100 hq
  · replace hq := hq.2 c4
    refine x_aload_n 0 dX11_addBuffer_12 rfl ?_
    refine x_iload_n 1 dX11_addBuffer_13 rfl ?_
    obtain ⟨g5, g6, hq⟩ := hq
    refine x_callV (Yc := YX11_node) (as := [.int x1]) (st := []) q2863 mvX11_node g1 rfl dX11_addBuffer_14 (xle (xal1 (rv_cat _) (xal1 rfl xal0)) (by decide)) (xfr g5) (xlo xsw0 (by decide) g6) (xKi hq (fun x8 h7 hq e9 => ?_) (fun _ _ q _ => q))
    replace hq := hq e9
    refine x_istore_n (lv' := [(3, .int x8), (0, rv x0), (1, .int x1), (2, .int x2)]) dX11_addBuffer_17 (by decide) rfl ?_
    refine x_aload_n 1 dX11_addBuffer_18 rfl ?_
    have t10 : tg h7 x0 = 12 := e9.tg g1 (by decide)
    refine x_get (v := rv (fR h7 x0 2826)) fdX11_41 dX11_addBuffer_19 t10 rfl ?_
    refine x_iload_n 0 dX11_addBuffer_22 rfl ?_
    refine x_aload_n 1 dX11_addBuffer_23 rfl ?_
    refine x_get (v := rv (fR h7 x0 2816)) fdX11_55 dX11_addBuffer_24 t10 rfl ?_
    obtain ⟨g11, hq⟩ := hq
    refine x_getN (v := rv (fR h7 (fR h7 x0 2816) 2560)) gfX11_82 dX11_addBuffer_27 g11 rfl ?_
    refine x_iload_n 2 dX11_addBuffer_30 rfl ?_
    refine x_iconst (v := 1) dX11_addBuffer_31 (by decide) ?_
    refine x_iadd dX11_addBuffer_32 ?_
    refine x_iload_n 3 dX11_addBuffer_33 rfl ?_
    refine x_iadd dX11_addBuffer_34 ?_
    obtain ⟨g12, hq⟩ := hq
    obtain ⟨i13, hq⟩ := hq
    refine x_lald g12 i13 dX11_addBuffer_35 ?_
    obtain ⟨g14, hq⟩ := hq
    obtain ⟨i15, hq⟩ := hq
    obtain ⟨h16, e17⟩ : ∃ y, y = tJ h7 (fR h7 x0 2826) (Int32.toNatClampNeg x8) (aJ h7 (fR h7 (fR h7 x0 2816) 2560) (Int32.toNatClampNeg ((x1 + 1) + x2))) := ⟨_, rfl⟩
    replace hq := hq h16 e17
    refine x_last' g14 i15 dX11_addBuffer_36 e17 ?_
    refine x_aload_n 1 dX11_addBuffer_37 rfl ?_
    have t18 : tg h16 x0 = 12 := by rw [e17]; exact t10
    refine x_get (v := rv (fR h16 x0 2827)) fdX11_45 dX11_addBuffer_38 t18 rfl ?_
    refine x_iload_n 0 dX11_addBuffer_41 rfl ?_
    refine x_aload_n 1 dX11_addBuffer_42 rfl ?_
    refine x_get (v := rv (fR h16 x0 2816)) fdX11_55 dX11_addBuffer_43 t18 rfl ?_
    obtain ⟨g19, hq⟩ := hq
    refine x_getN (v := rv (fR h16 (fR h16 x0 2816) 2561)) gfX11_85 dX11_addBuffer_46 g19 rfl ?_
    refine x_iload_n 2 dX11_addBuffer_49 rfl ?_
    refine x_iconst (v := 1) dX11_addBuffer_50 (by decide) ?_
    refine x_iadd dX11_addBuffer_51 ?_
    refine x_iload_n 3 dX11_addBuffer_52 rfl ?_
    refine x_iadd dX11_addBuffer_53 ?_
    obtain ⟨g20, hq⟩ := hq
    obtain ⟨i21, hq⟩ := hq
    refine x_lald g20 i21 dX11_addBuffer_54 ?_
    obtain ⟨g22, hq⟩ := hq
    obtain ⟨i23, hq⟩ := hq
    obtain ⟨h24, e25⟩ : ∃ y, y = tJ h16 (fR h16 x0 2827) (Int32.toNatClampNeg x8) (aJ h16 (fR h16 (fR h16 x0 2816) 2561) (Int32.toNatClampNeg ((x1 + 1) + x2))) := ⟨_, rfl⟩
    replace hq := hq h24 e25
    refine x_last' g22 i23 dX11_addBuffer_55 e25 ?_
    refine x_aload_n 1 dX11_addBuffer_56 rfl ?_
    have t26 : tg h24 x0 = 12 := by rw [e25]; exact t18
    refine x_get (v := rv (fR h24 x0 2828)) fdX11_48 dX11_addBuffer_57 t26 rfl ?_
    refine x_iload_n 0 dX11_addBuffer_60 rfl ?_
    refine x_aload_n 1 dX11_addBuffer_61 rfl ?_
    refine x_get (v := rv (fR h24 x0 2816)) fdX11_55 dX11_addBuffer_62 t26 rfl ?_
    obtain ⟨g27, hq⟩ := hq
    refine x_getN (v := rv (fR h24 (fR h24 x0 2816) 2562)) gfX11_86 dX11_addBuffer_65 g27 rfl ?_
    refine x_iload_n 2 dX11_addBuffer_68 rfl ?_
    refine x_iconst (v := 1) dX11_addBuffer_69 (by decide) ?_
    refine x_iadd dX11_addBuffer_70 ?_
    refine x_iload_n 3 dX11_addBuffer_71 rfl ?_
    refine x_iadd dX11_addBuffer_72 ?_
    obtain ⟨g28, hq⟩ := hq
    obtain ⟨i29, hq⟩ := hq
    refine x_dald g28 i29 dX11_addBuffer_73 ?_
    obtain ⟨g30, hq⟩ := hq
    obtain ⟨i31, hq⟩ := hq
    obtain ⟨h32, e33⟩ : ∃ y, y = tD h24 (fR h24 x0 2828) (Int32.toNatClampNeg x8) (aD h24 (fR h24 (fR h24 x0 2816) 2562) (Int32.toNatClampNeg ((x1 + 1) + x2))) := ⟨_, rfl⟩
    replace hq := hq h32 e33
    refine x_dast' g30 i31 dX11_addBuffer_74 e33 ?_
    refine x_aload_n 1 dX11_addBuffer_75 rfl ?_
    have t34 : tg h32 x0 = 12 := by rw [e33]; exact t26
    refine x_get (v := rv (fR h32 x0 2829)) fdX11_52 dX11_addBuffer_76 t34 rfl ?_
    refine x_iload_n 0 dX11_addBuffer_79 rfl ?_
    refine x_aload_n 1 dX11_addBuffer_80 rfl ?_
    refine x_get (v := rv (fR h32 x0 2816)) fdX11_55 dX11_addBuffer_81 t34 rfl ?_
    obtain ⟨g35, hq⟩ := hq
    refine x_getN (v := rv (fR h32 (fR h32 x0 2816) 2563)) gfX11_87 dX11_addBuffer_84 g35 rfl ?_
    refine x_iload_n 2 dX11_addBuffer_87 rfl ?_
    refine x_iconst (v := 1) dX11_addBuffer_88 (by decide) ?_
    refine x_iadd dX11_addBuffer_89 ?_
    refine x_iload_n 3 dX11_addBuffer_90 rfl ?_
    refine x_iadd dX11_addBuffer_91 ?_
    obtain ⟨g36, hq⟩ := hq
    obtain ⟨i37, hq⟩ := hq
    refine x_zald g36 i37 dX11_addBuffer_92 ?_
    obtain ⟨g38, hq⟩ := hq
    obtain ⟨i39, hq⟩ := hq
    obtain ⟨h40, e41⟩ : ∃ y, y = tI h32 (fR h32 x0 2829) (Int32.toNatClampNeg x8) (vp_nar .boolean (aI h32 (fR h32 (fR h32 x0 2816) 2563) (Int32.toNatClampNeg ((x1 + 1) + x2)))) := ⟨_, rfl⟩
    replace hq := hq h40 e41
    refine x_zast' g38 i39 dX11_addBuffer_93 e41 ?_
    refine x_iinc (lv' := [(2, .int (x2 + 1)), (3, .int x8), (0, rv x0), (1, .int x1)]) 3 dX11_addBuffer_94 rfl (by decide) rfl ?_
    refine x_goto (tgt := 2) dX11_addBuffer_97 (by decide) ?_
    refine xP.pick (lv' := [(0, rv x0), (1, .int x1), (2, .int (x2 + 1))]) [2, 3, 0] rfl ?_
    exact hq
set_option maxRecDepth 100000 in
def bX11_addBuffer (G : xG) (fr lo : Nat) (x0 : Nat) (x1 : Int32) (h : xH) (Q : Outcome → xH → Prop) : Prop := lX11_addBuffer_2 G fr lo x0 x1 0 h Q
set_option maxRecDepth 100000 in
theorem uX11_addBuffer {G : xG} {fr lo : Nat} {x0 : Nat} {x1 : Int32} {h : xH} {Q : Outcome → xH → Prop} (hq : bX11_addBuffer G fr lo x0 x1 h Q) : xP G YX11_addBuffer fr lo 0 [(0, rv x0), (1, .int x1)] [] h Q := by
  unfold bX11_addBuffer at hq
  refine x_iconst (v := 0) dX11_addBuffer_0 (by decide) ?_
  refine x_istore_n (lv' := [(2, .int 0), (0, rv x0), (1, .int x1)]) dX11_addBuffer_1 (by decide) rfl ?_
  refine xP.pick (lv' := [(0, rv x0), (1, .int x1), (2, .int 0)]) [1, 2, 0] rfl ?_
  exact hq
theorem rX11_addBuffer {G : xG} {fr lo : Nat} {x0 : Nat} {x1 : Int32} {h : xH} {Q : Outcome → xH → Prop} (hq : bX11_addBuffer G fr lo x0 x1 h Q) : xR G YX11_addBuffer fr lo [rv x0, .int x1] h Q := by
  show xP _ _ _ _ _ (lv_args 0 _) _ _ _
  rw [show lv_args 0 [rv x0, .int x1] = [(0, rv x0), (1, .int x1)] from (xla1 (rv_cat _) (xla1 rfl xla0))]
  exact uX11_addBuffer hq
set_option maxRecDepth 100000 in
theorem dX11_ahead_0 : decode cX11_ahead 0 = .ok (.aload_n 0, 1) := by decide +kernel
set_option maxRecDepth 100000 in
theorem dX11_ahead_1 : decode cX11_ahead 1 = .ok (.getfield 21, 3) := by decide +kernel
set_option maxRecDepth 100000 in
theorem dX11_ahead_4 : decode cX11_ahead 4 = .ok (.iload_n 1, 1) := by decide +kernel
set_option maxRecDepth 100000 in
theorem dX11_ahead_5 : decode cX11_ahead 5 = .ok (.iaload, 1) := by decide +kernel
set_option maxRecDepth 100000 in
theorem dX11_ahead_6 : decode cX11_ahead 6 = .ok (.istore_n 3, 1) := by decide +kernel
set_option maxRecDepth 100000 in
theorem dX11_ahead_7 : decode cX11_ahead 7 = .ok (.iconst 0, 1) := by decide +kernel
set_option maxRecDepth 100000 in
theorem dX11_ahead_8 : decode cX11_ahead 8 = .ok (.istore 4, 2) := by decide +kernel
set_option maxRecDepth 100000 in
theorem dX11_ahead_10 : decode cX11_ahead 10 = .ok (.iload 4, 2) := by decide +kernel
set_option maxRecDepth 100000 in
theorem dX11_ahead_12 : decode cX11_ahead 12 = .ok (.iload_n 2, 1) := by decide +kernel
set_option maxRecDepth 100000 in
theorem dX11_ahead_13 : decode cX11_ahead 13 = .ok (.if_icmp .ge 21, 3) := by decide +kernel
set_option maxRecDepth 100000 in
theorem dX11_ahead_16 : decode cX11_ahead 16 = .ok (.iload_n 3, 1) := by decide +kernel
set_option maxRecDepth 100000 in
theorem dX11_ahead_17 : decode cX11_ahead 17 = .ok (.iconst (-1), 1) := by decide +kernel
set_option maxRecDepth 100000 in
theorem dX11_ahead_18 : decode cX11_ahead 18 = .ok (.if_icmp .eq 16, 3) := by decide +kernel
set_option maxRecDepth 100000 in
theorem dX11_ahead_21 : decode cX11_ahead 21 = .ok (.aload_n 0, 1) := by decide +kernel
set_option maxRecDepth 100000 in
theorem dX11_ahead_22 : decode cX11_ahead 22 = .ok (.getfield 38, 3) := by decide +kernel
set_option maxRecDepth 100000 in
theorem dX11_ahead_25 : decode cX11_ahead 25 = .ok (.iload_n 3, 1) := by decide +kernel
set_option maxRecDepth 100000 in
theorem dX11_ahead_26 : decode cX11_ahead 26 = .ok (.iaload, 1) := by decide +kernel
set_option maxRecDepth 100000 in
theorem dX11_ahead_27 : decode cX11_ahead 27 = .ok (.istore_n 3, 1) := by decide +kernel
set_option maxRecDepth 100000 in
theorem dX11_ahead_28 : decode cX11_ahead 28 = .ok (.iinc 4 1, 3) := by decide +kernel
set_option maxRecDepth 100000 in
theorem dX11_ahead_31 : decode cX11_ahead 31 = .ok (.goto (-21), 3) := by decide +kernel
set_option maxRecDepth 100000 in
theorem dX11_ahead_34 : decode cX11_ahead 34 = .ok (.iload_n 3, 1) := by decide +kernel
set_option maxRecDepth 100000 in
theorem dX11_ahead_35 : decode cX11_ahead 35 = .ok (.iconst (-1), 1) := by decide +kernel
set_option maxRecDepth 100000 in
theorem dX11_ahead_36 : decode cX11_ahead 36 = .ok (.if_icmp .ne 7, 3) := by decide +kernel
set_option maxRecDepth 100000 in
theorem dX11_ahead_39 : decode cX11_ahead 39 = .ok (.iconst (-1), 1) := by decide +kernel
set_option maxRecDepth 100000 in
theorem dX11_ahead_40 : decode cX11_ahead 40 = .ok (.goto 10, 3) := by decide +kernel
set_option maxRecDepth 100000 in
theorem dX11_ahead_43 : decode cX11_ahead 43 = .ok (.aload_n 0, 1) := by decide +kernel
set_option maxRecDepth 100000 in
theorem dX11_ahead_44 : decode cX11_ahead 44 = .ok (.getfield 41, 3) := by decide +kernel
set_option maxRecDepth 100000 in
theorem dX11_ahead_47 : decode cX11_ahead 47 = .ok (.iload_n 3, 1) := by decide +kernel
set_option maxRecDepth 100000 in
theorem dX11_ahead_48 : decode cX11_ahead 48 = .ok (.laload, 1) := by decide +kernel
set_option maxRecDepth 100000 in
theorem dX11_ahead_49 : decode cX11_ahead 49 = .ok (.l2i, 1) := by decide +kernel
set_option maxRecDepth 100000 in
theorem dX11_ahead_50 : decode cX11_ahead 50 = .ok (.ireturn, 1) := by decide +kernel
def lX11_ahead_10 (G : xG) (fr lo : Nat) (x0 : Nat) (x2 : Int32) (x3 : Int32) (x4 : Int32) (h : xH) (Q : Outcome → xH → Prop) : Prop := xP G YX11_ahead fr lo 10 [(0, rv x0), (2, .int x2), (3, .int x3), (4, .int x4)] [] h Q
set_option maxRecDepth 100000 in
def bX11_ahead_50 (G : xG) (fr lo : Nat) (s0 : Int32) (h : xH) (Q : Outcome → xH → Prop) : Prop := Q (.returned (some (.int s0))) h
set_option maxRecDepth 100000 in
theorem uX11_ahead_50 {G : xG} {fr lo : Nat} {s0 : Int32} {h : xH} {Q : Outcome → xH → Prop} (hq : bX11_ahead_50 G fr lo s0 h Q) : xP G YX11_ahead fr lo 50 [] [.int s0] h Q := by
  unfold bX11_ahead_50 at hq
  exact x_iret rfl rfl dX11_ahead_50 hq
set_option maxRecDepth 100000 in
def bX11_ahead_34 (G : xG) (fr lo : Nat) (x0 : Nat) (x3 : Int32) (h : xH) (Q : Outcome → xH → Prop) : Prop := ((¬ x3 = (-1) → tg h x0 = 12 ∧ tg h (fR h x0 2826) = 101 ∧ vp_in x3 (ln h (fR h x0 2826)) ∧ bX11_ahead_50 G fr lo (Int64.toInt32 (aJ h (fR h x0 2826) (Int32.toNatClampNeg x3))) h Q) ∧ (x3 = (-1) → bX11_ahead_50 G fr lo (-1) h Q))
set_option maxRecDepth 100000 in
theorem uX11_ahead_34 {G : xG} {fr lo : Nat} {x0 : Nat} {x3 : Int32} {h : xH} {Q : Outcome → xH → Prop} (hq : bX11_ahead_34 G fr lo x0 x3 h Q) : xP G YX11_ahead fr lo 34 [(0, rv x0), (3, .int x3)] [] h Q := by
  unfold bX11_ahead_34 at hq
  refine x_iload_n 1 dX11_ahead_34 rfl ?_
  refine x_iconst (v := (-1)) dX11_ahead_35 (by decide) ?_
  refine x_icmp_ne (tgt := 43) dX11_ahead_36 (by decide) (fun c1 => ?_) (fun c1 => ?_)
  · replace hq := hq.1 c1
    refine x_aload_n 0 dX11_ahead_43 rfl ?_
    obtain ⟨g2, hq⟩ := hq
    refine x_get (v := rv (fR h x0 2826)) fdX11_41 dX11_ahead_44 g2 rfl ?_
    refine x_iload_n 1 dX11_ahead_47 rfl ?_
    obtain ⟨g3, hq⟩ := hq
    obtain ⟨i4, hq⟩ := hq
    refine x_lald g3 i4 dX11_ahead_48 ?_
    refine x_l2i dX11_ahead_49 ?_
    refine xP.pick (lv' := []) [] rfl ?_
    exact uX11_ahead_50 hq
  · replace hq := hq.2 c1
    refine x_iconst (v := (-1)) dX11_ahead_39 (by decide) ?_
    refine x_goto (tgt := 50) dX11_ahead_40 (by decide) ?_
    refine xP.pick (lv' := []) [] rfl ?_
    exact uX11_ahead_50 hq
set_option maxRecDepth 100000 in
def bX11_ahead_10 (G : xG) (fr lo : Nat) (x0 : Nat) (x2 : Int32) (x3 : Int32) (x4 : Int32) (h : xH) (Q : Outcome → xH → Prop) : Prop := ((x2 ≤ x4 → bX11_ahead_34 G fr lo x0 x3 h Q) ∧ (¬ x2 ≤ x4 → ((x3 = (-1) → bX11_ahead_34 G fr lo x0 x3 h Q) ∧ (¬ x3 = (-1) → tg h x0 = 12 ∧ tg h (fR h x0 2825) = 100 ∧ vp_in x3 (ln h (fR h x0 2825)) ∧ lX11_ahead_10 G fr lo x0 x2 (aI h (fR h x0 2825) (Int32.toNatClampNeg x3)) (x4 + 1) h Q))))
set_option maxRecDepth 100000 in
theorem uX11_ahead_10 {G : xG} {fr lo : Nat} {x0 : Nat} {x2 : Int32} {x3 : Int32} {x4 : Int32} {h : xH} {Q : Outcome → xH → Prop} (hq : bX11_ahead_10 G fr lo x0 x2 x3 x4 h Q) : xP G YX11_ahead fr lo 10 [(0, rv x0), (2, .int x2), (3, .int x3), (4, .int x4)] [] h Q := by
  unfold bX11_ahead_10 at hq
  refine x_iload 3 dX11_ahead_10 rfl ?_
  refine x_iload_n 1 dX11_ahead_12 rfl ?_
  refine x_icmp_ge (tgt := 34) dX11_ahead_13 (by decide) (fun c1 => ?_) (fun c1 => ?_)
  · replace hq := hq.1 c1
    refine xP.pick (lv' := [(0, rv x0), (3, .int x3)]) [0, 2] rfl ?_
    exact uX11_ahead_34 hq
  · replace hq := hq.2 c1
    refine x_iload_n 2 dX11_ahead_16 rfl ?_
    refine x_iconst (v := (-1)) dX11_ahead_17 (by decide) ?_
    refine x_icmp_eq (tgt := 34) dX11_ahead_18 (by decide) (fun c2 => ?_) (fun c2 => ?_)
    · replace hq := hq.1 c2
      refine xP.pick (lv' := [(0, rv x0), (3, .int x3)]) [0, 2] rfl ?_
      exact uX11_ahead_34 hq
    · replace hq := hq.2 c2
      refine x_aload_n 0 dX11_ahead_21 rfl ?_
      obtain ⟨g3, hq⟩ := hq
      refine x_get (v := rv (fR h x0 2825)) fdX11_38 dX11_ahead_22 g3 rfl ?_
      refine x_iload_n 2 dX11_ahead_25 rfl ?_
      obtain ⟨g4, hq⟩ := hq
      obtain ⟨i5, hq⟩ := hq
      refine x_iald 0 (Or.inl rfl) g4 i5 dX11_ahead_26 ?_
      refine x_istore_n (lv' := [(3, .int (aI h (fR h x0 2825) (Int32.toNatClampNeg x3))), (0, rv x0), (2, .int x2), (4, .int x4)]) dX11_ahead_27 (by decide) rfl ?_
      refine x_iinc (lv' := [(4, .int (x4 + 1)), (3, .int (aI h (fR h x0 2825) (Int32.toNatClampNeg x3))), (0, rv x0), (2, .int x2)]) 3 dX11_ahead_28 rfl (by decide) rfl ?_
      refine x_goto (tgt := 10) dX11_ahead_31 (by decide) ?_
      refine xP.pick (lv' := [(0, rv x0), (2, .int x2), (3, .int (aI h (fR h x0 2825) (Int32.toNatClampNeg x3))), (4, .int (x4 + 1))]) [2, 3, 1, 0] rfl ?_
      exact hq
set_option maxRecDepth 100000 in
def bX11_ahead (G : xG) (fr lo : Nat) (x0 : Nat) (x1 : Int32) (x2 : Int32) (h : xH) (Q : Outcome → xH → Prop) : Prop := tg h x0 = 12 ∧ tg h (fR h x0 2820) = 100 ∧ vp_in x1 (ln h (fR h x0 2820)) ∧ lX11_ahead_10 G fr lo x0 x2 (aI h (fR h x0 2820) (Int32.toNatClampNeg x1)) 0 h Q
set_option maxRecDepth 100000 in
theorem uX11_ahead {G : xG} {fr lo : Nat} {x0 : Nat} {x1 : Int32} {x2 : Int32} {h : xH} {Q : Outcome → xH → Prop} (hq : bX11_ahead G fr lo x0 x1 x2 h Q) : xP G YX11_ahead fr lo 0 [(0, rv x0), (1, .int x1), (2, .int x2)] [] h Q := by
  unfold bX11_ahead at hq
  refine x_aload_n 0 dX11_ahead_0 rfl ?_
  obtain ⟨g1, hq⟩ := hq
  refine x_get (v := rv (fR h x0 2820)) fdX11_21 dX11_ahead_1 g1 rfl ?_
  refine x_iload_n 1 dX11_ahead_4 rfl ?_
  obtain ⟨g2, hq⟩ := hq
  obtain ⟨i3, hq⟩ := hq
  refine x_iald 0 (Or.inl rfl) g2 i3 dX11_ahead_5 ?_
  refine x_istore_n (lv' := [(3, .int (aI h (fR h x0 2820) (Int32.toNatClampNeg x1))), (0, rv x0), (1, .int x1), (2, .int x2)]) dX11_ahead_6 (by decide) rfl ?_
  refine x_iconst (v := 0) dX11_ahead_7 (by decide) ?_
  refine x_istore (lv' := [(4, .int 0), (3, .int (aI h (fR h x0 2820) (Int32.toNatClampNeg x1))), (0, rv x0), (1, .int x1), (2, .int x2)]) dX11_ahead_8 (by decide) rfl ?_
  refine xP.pick (lv' := [(0, rv x0), (2, .int x2), (3, .int (aI h (fR h x0 2820) (Int32.toNatClampNeg x1))), (4, .int 0)]) [2, 4, 1, 0] rfl ?_
  exact hq
theorem rX11_ahead {G : xG} {fr lo : Nat} {x0 : Nat} {x1 : Int32} {x2 : Int32} {h : xH} {Q : Outcome → xH → Prop} (hq : bX11_ahead G fr lo x0 x1 x2 h Q) : xR G YX11_ahead fr lo [rv x0, .int x1, .int x2] h Q := by
  show xP _ _ _ _ _ (lv_args 0 _) _ _ _
  rw [show lv_args 0 [rv x0, .int x1, .int x2] = [(0, rv x0), (1, .int x1), (2, .int x2)] from (xla1 (rv_cat _) (xla1 rfl (xla1 rfl xla0)))]
  exact uX11_ahead hq
