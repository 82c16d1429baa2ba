/-! PascalHouse$Machine, walked (1) -/
set_option maxRecDepth 100000 in
theorem dX9_init_0 : decode cX9_init 0 = .ok (.aload_n 0, 1) := by decide +kernel
set_option maxRecDepth 100000 in
theorem dX9_init_1 : decode cX9_init 1 = .ok (.invokespecial 3, 3) := by decide +kernel
set_option maxRecDepth 100000 in
theorem dX9_init_4 : decode cX9_init 4 = .ok (.aload_n 0, 1) := by decide +kernel
set_option maxRecDepth 100000 in
theorem dX9_init_5 : decode cX9_init 5 = .ok (.new 9, 3) := by decide +kernel
set_option maxRecDepth 100000 in
theorem dX9_init_8 : decode cX9_init 8 = .ok (.dup, 1) := by decide +kernel
set_option maxRecDepth 100000 in
theorem dX9_init_9 : decode cX9_init 9 = .ok (.invokespecial 11, 3) := by decide +kernel
set_option maxRecDepth 100000 in
theorem dX9_init_12 : decode cX9_init 12 = .ok (.putfield 12, 3) := by decide +kernel
set_option maxRecDepth 100000 in
theorem dX9_init_15 : decode cX9_init 15 = .ok (.aload_n 0, 1) := by decide +kernel
set_option maxRecDepth 100000 in
theorem dX9_init_16 : decode cX9_init 16 = .ok (.new 18, 3) := by decide +kernel
set_option maxRecDepth 100000 in
theorem dX9_init_19 : decode cX9_init 19 = .ok (.dup, 1) := by decide +kernel
set_option maxRecDepth 100000 in
theorem dX9_init_20 : decode cX9_init 20 = .ok (.aload_n 0, 1) := by decide +kernel
set_option maxRecDepth 100000 in
theorem dX9_init_21 : decode cX9_init 21 = .ok (.getfield 12, 3) := by decide +kernel
set_option maxRecDepth 100000 in
theorem dX9_init_24 : decode cX9_init 24 = .ok (.invokespecial 20, 3) := by decide +kernel
set_option maxRecDepth 100000 in
theorem dX9_init_27 : decode cX9_init 27 = .ok (.putfield 23, 3) := by decide +kernel
set_option maxRecDepth 100000 in
theorem dX9_init_30 : decode cX9_init 30 = .ok (.aload_n 0, 1) := by decide +kernel
set_option maxRecDepth 100000 in
theorem dX9_init_31 : decode cX9_init 31 = .ok (.ldc 27, 2) := by decide +kernel
set_option maxRecDepth 100000 in
theorem dX9_init_33 : decode cX9_init 33 = .ok (.newarray .long, 2) := by decide +kernel
set_option maxRecDepth 100000 in
theorem dX9_init_35 : decode cX9_init 35 = .ok (.putfield 28, 3) := by decide +kernel
set_option maxRecDepth 100000 in
theorem dX9_init_38 : decode cX9_init 38 = .ok (.aload_n 0, 1) := by decide +kernel
set_option maxRecDepth 100000 in
theorem dX9_init_39 : decode cX9_init 39 = .ok (.ldc 27, 2) := by decide +kernel
set_option maxRecDepth 100000 in
theorem dX9_init_41 : decode cX9_init 41 = .ok (.newarray .long, 2) := by decide +kernel
set_option maxRecDepth 100000 in
theorem dX9_init_43 : decode cX9_init 43 = .ok (.putfield 32, 3) := by decide +kernel
set_option maxRecDepth 100000 in
theorem dX9_init_46 : decode cX9_init 46 = .ok (.aload_n 0, 1) := by decide +kernel
set_option maxRecDepth 100000 in
theorem dX9_init_47 : decode cX9_init 47 = .ok (.ldc 27, 2) := by decide +kernel
set_option maxRecDepth 100000 in
theorem dX9_init_49 : decode cX9_init 49 = .ok (.newarray .double, 2) := by decide +kernel
set_option maxRecDepth 100000 in
theorem dX9_init_51 : decode cX9_init 51 = .ok (.putfield 35, 3) := by decide +kernel
set_option maxRecDepth 100000 in
theorem dX9_init_54 : decode cX9_init 54 = .ok (.aload_n 0, 1) := by decide +kernel
set_option maxRecDepth 100000 in
theorem dX9_init_55 : decode cX9_init 55 = .ok (.bipush 32, 2) := by decide +kernel
set_option maxRecDepth 100000 in
theorem dX9_init_57 : decode cX9_init 57 = .ok (.newarray .int, 2) := by decide +kernel
set_option maxRecDepth 100000 in
theorem dX9_init_59 : decode cX9_init 59 = .ok (.putfield 39, 3) := by decide +kernel
set_option maxRecDepth 100000 in
theorem dX9_init_62 : decode cX9_init 62 = .ok (.aload_n 0, 1) := by decide +kernel
set_option maxRecDepth 100000 in
theorem dX9_init_63 : decode cX9_init 63 = .ok (.bipush 32, 2) := by decide +kernel
set_option maxRecDepth 100000 in
theorem dX9_init_65 : decode cX9_init 65 = .ok (.newarray .int, 2) := by decide +kernel
set_option maxRecDepth 100000 in
theorem dX9_init_67 : decode cX9_init 67 = .ok (.putfield 43, 3) := by decide +kernel
set_option maxRecDepth 100000 in
theorem dX9_init_70 : decode cX9_init 70 = .ok (.aload_n 0, 1) := by decide +kernel
set_option maxRecDepth 100000 in
theorem dX9_init_71 : decode cX9_init 71 = .ok (.bipush 32, 2) := by decide +kernel
set_option maxRecDepth 100000 in
theorem dX9_init_73 : decode cX9_init 73 = .ok (.newarray .int, 2) := by decide +kernel
set_option maxRecDepth 100000 in
theorem dX9_init_75 : decode cX9_init 75 = .ok (.putfield 46, 3) := by decide +kernel
set_option maxRecDepth 100000 in
theorem dX9_init_78 : decode cX9_init 78 = .ok (.aload_n 0, 1) := by decide +kernel
set_option maxRecDepth 100000 in
theorem dX9_init_79 : decode cX9_init 79 = .ok (.bipush 32, 2) := by decide +kernel
set_option maxRecDepth 100000 in
theorem dX9_init_81 : decode cX9_init 81 = .ok (.newarray .int, 2) := by decide +kernel
set_option maxRecDepth 100000 in
theorem dX9_init_83 : decode cX9_init 83 = .ok (.putfield 49, 3) := by decide +kernel
set_option maxRecDepth 100000 in
theorem dX9_init_86 : decode cX9_init 86 = .ok (.aload_n 0, 1) := by decide +kernel
set_option maxRecDepth 100000 in
theorem dX9_init_87 : decode cX9_init 87 = .ok (.bipush 32, 2) := by decide +kernel
set_option maxRecDepth 100000 in
theorem dX9_init_89 : decode cX9_init 89 = .ok (.newarray .int, 2) := by decide +kernel
set_option maxRecDepth 100000 in
theorem dX9_init_91 : decode cX9_init 91 = .ok (.putfield 52, 3) := by decide +kernel
set_option maxRecDepth 100000 in
theorem dX9_init_94 : decode cX9_init 94 = .ok (.aload_n 0, 1) := by decide +kernel
set_option maxRecDepth 100000 in
theorem dX9_init_95 : decode cX9_init 95 = .ok (.bipush 32, 2) := by decide +kernel
set_option maxRecDepth 100000 in
theorem dX9_init_97 : decode cX9_init 97 = .ok (.anewarray 55, 3) := by decide +kernel
set_option maxRecDepth 100000 in
theorem dX9_init_100 : decode cX9_init 100 = .ok (.putfield 57, 3) := by decide +kernel
set_option maxRecDepth 100000 in
theorem dX9_init_103 : decode cX9_init 103 = .ok (.aload_n 0, 1) := by decide +kernel
set_option maxRecDepth 100000 in
theorem dX9_init_104 : decode cX9_init 104 = .ok (.sipush 4096, 3) := by decide +kernel
set_option maxRecDepth 100000 in
theorem dX9_init_107 : decode cX9_init 107 = .ok (.newarray .long, 2) := by decide +kernel
set_option maxRecDepth 100000 in
theorem dX9_init_109 : decode cX9_init 109 = .ok (.putfield 61, 3) := by decide +kernel
set_option maxRecDepth 100000 in
theorem dX9_init_112 : decode cX9_init 112 = .ok (.aload_n 0, 1) := by decide +kernel
set_option maxRecDepth 100000 in
theorem dX9_init_113 : decode cX9_init 113 = .ok (.sipush 10001, 3) := by decide +kernel
set_option maxRecDepth 100000 in
theorem dX9_init_116 : decode cX9_init 116 = .ok (.newarray .int, 2) := by decide +kernel
set_option maxRecDepth 100000 in
theorem dX9_init_118 : decode cX9_init 118 = .ok (.putfield 64, 3) := by decide +kernel
set_option maxRecDepth 100000 in
theorem dX9_init_121 : decode cX9_init 121 = .ok (.aload_n 0, 1) := by decide +kernel
set_option maxRecDepth 100000 in
theorem dX9_init_122 : decode cX9_init 122 = .ok (.sipush 10001, 3) := by decide +kernel
set_option maxRecDepth 100000 in
theorem dX9_init_125 : decode cX9_init 125 = .ok (.newarray .boolean, 2) := by decide +kernel
set_option maxRecDepth 100000 in
theorem dX9_init_127 : decode cX9_init 127 = .ok (.putfield 67, 3) := by decide +kernel
set_option maxRecDepth 100000 in
theorem dX9_init_130 : decode cX9_init 130 = .ok (.aload_n 0, 1) := by decide +kernel
set_option maxRecDepth 100000 in
theorem dX9_init_131 : decode cX9_init 131 = .ok (.sipush 6000, 3) := by decide +kernel
set_option maxRecDepth 100000 in
theorem dX9_init_134 : decode cX9_init 134 = .ok (.newarray .byte, 2) := by decide +kernel
set_option maxRecDepth 100000 in
theorem dX9_init_136 : decode cX9_init 136 = .ok (.putfield 71, 3) := by decide +kernel
set_option maxRecDepth 100000 in
theorem dX9_init_139 : decode cX9_init 139 = .ok (.aload_n 0, 1) := by decide +kernel
set_option maxRecDepth 100000 in
theorem dX9_init_140 : decode cX9_init 140 = .ok (.aload_n 1, 1) := by decide +kernel
set_option maxRecDepth 100000 in
theorem dX9_init_141 : decode cX9_init 141 = .ok (.putfield 75, 3) := by decide +kernel
set_option maxRecDepth 100000 in
theorem dX9_init_144 : decode cX9_init 144 = .ok (.return_, 1) := by decide +kernel
set_option maxRecDepth 100000 in
def bX9_init (G : xG) (fr lo : Nat) (x0 : Nat) (x1 : Nat) (h : xH) (Q : Outcome → xH → Prop) : Prop := tg h x0 = 10 ∧ 1 ≤ fr ∧ 12 ≤ lo ∧ nx h + 1 ≤ xGN G ∧ us h + 4 ≤ xGU G ∧ (∀ (a6 : Nat) (h7 : xH), a6 = nx h + 1 → h7 = nO h 11 4 → xfresh h a6 → 1 ≤ fr ∧ 14 ≤ lo ∧ xRv G YX10_init (fr - 1) (lo - 14) [rv a6] h7 (fun h14 => xext h7 h14 → (∀ h19 : xH, h19 = sR h14 x0 2305 a6 → nx h19 + 1 ≤ xGN G ∧ us h19 + 16 ≤ xGU G ∧ (∀ (a23 : Nat) (h24 : xH), a23 = nx h19 + 1 → h24 = nO h19 12 16 → xfresh h19 a23 → 1 ≤ fr ∧ 15 ≤ lo ∧ xRv G YX11_init (fr - 1) (lo - 15) [rv a23, rv (fR h24 x0 2305)] h24 (fun h33 => xext h24 h33 → (∀ h37 : xH, h37 = sR h33 x0 2306 a23 → nx h37 + 1 ≤ xGN G ∧ us h37 + (Int32.toNatClampNeg 40000) ≤ xGU G ∧ (∀ (a41 : Nat) (h42 : xH), a41 = nx h37 + 1 → h42 = nA h37 101 (Int32.toNatClampNeg 40000) → xfresh h37 a41 → (∀ h49 : xH, h49 = sR h42 x0 2307 a41 → nx h49 + 1 ≤ xGN G ∧ us h49 + (Int32.toNatClampNeg 40000) ≤ xGU G ∧ (∀ (a53 : Nat) (h54 : xH), a53 = nx h49 + 1 → h54 = nA h49 101 (Int32.toNatClampNeg 40000) → xfresh h49 a53 → (∀ h61 : xH, h61 = sR h54 x0 2308 a53 → nx h61 + 1 ≤ xGN G ∧ us h61 + (Int32.toNatClampNeg 40000) ≤ xGU G ∧ (∀ (a65 : Nat) (h66 : xH), a65 = nx h61 + 1 → h66 = nA h61 102 (Int32.toNatClampNeg 40000) → xfresh h61 a65 → (∀ h73 : xH, h73 = sR h66 x0 2309 a65 → nx h73 + 1 ≤ xGN G ∧ us h73 + (Int32.toNatClampNeg 32) ≤ xGU G ∧ (∀ (a77 : Nat) (h78 : xH), a77 = nx h73 + 1 → h78 = nA h73 100 (Int32.toNatClampNeg 32) → xfresh h73 a77 → (∀ h85 : xH, h85 = sR h78 x0 2312 a77 → nx h85 + 1 ≤ xGN G ∧ us h85 + (Int32.toNatClampNeg 32) ≤ xGU G ∧ (∀ (a89 : Nat) (h90 : xH), a89 = nx h85 + 1 → h90 = nA h85 100 (Int32.toNatClampNeg 32) → xfresh h85 a89 → (∀ h97 : xH, h97 = sR h90 x0 2313 a89 → nx h97 + 1 ≤ xGN G ∧ us h97 + (Int32.toNatClampNeg 32) ≤ xGU G ∧ (∀ (a101 : Nat) (h102 : xH), a101 = nx h97 + 1 → h102 = nA h97 100 (Int32.toNatClampNeg 32) → xfresh h97 a101 → (∀ h109 : xH, h109 = sR h102 x0 2314 a101 → nx h109 + 1 ≤ xGN G ∧ us h109 + (Int32.toNatClampNeg 32) ≤ xGU G ∧ (∀ (a113 : Nat) (h114 : xH), a113 = nx h109 + 1 → h114 = nA h109 100 (Int32.toNatClampNeg 32) → xfresh h109 a113 → (∀ h121 : xH, h121 = sR h114 x0 2315 a113 → nx h121 + 1 ≤ xGN G ∧ us h121 + (Int32.toNatClampNeg 32) ≤ xGU G ∧ (∀ (a125 : Nat) (h126 : xH), a125 = nx h121 + 1 → h126 = nA h121 100 (Int32.toNatClampNeg 32) → xfresh h121 a125 → (∀ h133 : xH, h133 = sR h126 x0 2316 a125 → nx h133 + 1 ≤ xGN G ∧ us h133 + (Int32.toNatClampNeg 32) ≤ xGU G ∧ (∀ (a137 : Nat) (h138 : xH), a137 = nx h133 + 1 → h138 = nA h133 107 (Int32.toNatClampNeg 32) → xfresh h133 a137 → (∀ h145 : xH, h145 = sR h138 x0 2317 a137 → nx h145 + 1 ≤ xGN G ∧ us h145 + (Int32.toNatClampNeg 4096) ≤ xGU G ∧ (∀ (a149 : Nat) (h150 : xH), a149 = nx h145 + 1 → h150 = nA h145 101 (Int32.toNatClampNeg 4096) → xfresh h145 a149 → (∀ h157 : xH, h157 = sR h150 x0 2318 a149 → nx h157 + 1 ≤ xGN G ∧ us h157 + (Int32.toNatClampNeg 10001) ≤ xGU G ∧ (∀ (a161 : Nat) (h162 : xH), a161 = nx h157 + 1 → h162 = nA h157 100 (Int32.toNatClampNeg 10001) → xfresh h157 a161 → (∀ h169 : xH, h169 = sR h162 x0 2321 a161 → nx h169 + 1 ≤ xGN G ∧ us h169 + (Int32.toNatClampNeg 10001) ≤ xGU G ∧ (∀ (a173 : Nat) (h174 : xH), a173 = nx h169 + 1 → h174 = nA h169 104 (Int32.toNatClampNeg 10001) → xfresh h169 a173 → (∀ h181 : xH, h181 = sR h174 x0 2322 a173 → nx h181 + 1 ≤ xGN G ∧ us h181 + (Int32.toNatClampNeg 6000) ≤ xGU G ∧ (∀ (a185 : Nat) (h186 : xH), a185 = nx h181 + 1 → h186 = nA h181 103 (Int32.toNatClampNeg 6000) → xfresh h181 a185 → (∀ h193 : xH, h193 = sR h186 x0 2333 a185 → (∀ h196 : xH, h196 = sR h193 x0 2304 x1 → Q (.returned none) h196))))))))))))))))))))))))))))) (fun r h2 => Q (.threw r) h2)))) (fun r h2 => Q (.threw r) h2))
set_option maxRecDepth 100000 in
theorem uX9_init {G : xG} {fr lo : Nat} {x0 : Nat} {x1 : Nat} {h : xH} {Q : Outcome → xH → Prop} (hq : bX9_init G fr lo x0 x1 h Q) : xP G YX9_init fr lo 0 [(0, rv x0), (1, rv x1)] [] h Q := by
  unfold bX9_init at hq
  refine x_aload_n 0 dX9_init_0 rfl ?_
  obtain ⟨g1, hq⟩ := hq
  obtain ⟨g2, g3, hq⟩ := hq
  refine x_objInit (by rw [g1]; decide) q1201 q438 q439 dX9_init_1 g2 (by simp only [List.map_cons, List.map_nil, List.sum_cons, List.sum_nil, rv_cat, Value.category]; omega) ?_
  refine x_aload_n 0 dX9_init_4 rfl ?_
  obtain ⟨g4, g5, hq⟩ := hq
  obtain ⟨a6, e8⟩ : ∃ y, y = nx h + 1 := ⟨_, rfl⟩
  obtain ⟨h7, e9⟩ : ∃ y, y = nO h 11 4 := ⟨_, rfl⟩
  refine x_new' cdX9_9 dX9_init_5 g4 g5 e8 e9 (fun f10 => ?_)
  replace hq := hq a6 h7 e8 e9 f10
  have t11 : tg h7 a6 = 11 := by rw [e9, e8]; exact tg_nO
  refine x_dup dX9_init_8 (rv_cat _) ?_
  obtain ⟨g12, g13, hq⟩ := hq
  refine x_callIN (Yc := YX10_init) (as := []) (st := [rv a6, rv x0]) (List.mem_filter.mpr ⟨q1204, rfl⟩) miX10_init (by rw [t11]; decide) rfl dX9_init_9 (xle (xal1 (rv_cat _) xal0) (by decide)) (xfr g12) (xlo (xsw1 (rv_cat _) (xsw1 (rv_cat _) xsw0)) (by decide) g13) (xKv hq (fun h14 hq e16 => ?_) (fun _ _ q _ => q))
  replace hq := hq e16
  have t17 : tg h7 x0 = 10 := by rw [e9]; exact tg_nO_ne e8 f10 g1 (by decide)
  have t18 : tg h14 x0 = 10 := e16.tg t17 (by decide)
  obtain ⟨h19, e20⟩ : ∃ y, y = sR h14 x0 2305 a6 := ⟨_, rfl⟩
  replace hq := hq h19 e20
  refine x_putFR fdX9_12 owX9_init_1 xty_O dX9_init_12 t18 (Or.inl (by rw [t18]; rfl)) rfl e20 ?_
  refine x_aload_n 0 dX9_init_15 rfl ?_
  obtain ⟨g21, g22, hq⟩ := hq
  obtain ⟨a23, e25⟩ : ∃ y, y = nx h19 + 1 := ⟨_, rfl⟩
  obtain ⟨h24, e26⟩ : ∃ y, y = nO h19 12 16 := ⟨_, rfl⟩
  refine x_new' cdX9_18 dX9_init_16 g21 g22 e25 e26 (fun f27 => ?_)
  replace hq := hq a23 h24 e25 e26 f27
  have t28 : tg h24 a23 = 12 := by rw [e26, e25]; exact tg_nO
  refine x_dup dX9_init_19 (rv_cat _) ?_
  refine x_aload_n 0 dX9_init_20 rfl ?_
  have t29 : tg h19 x0 = 10 := by rw [e20]; exact t18
  have t30 : tg h24 x0 = 10 := by rw [e26]; exact tg_nO_ne e25 f27 t29 (by decide)
  refine x_get (v := rv (fR h24 x0 2305)) fdX9_12 dX9_init_21 t30 rfl ?_
  obtain ⟨g31, g32, hq⟩ := hq
  refine x_callI (Yc := YX11_init) (as := [rv (fR h24 x0 2305)]) (st := [rv a23, rv x0]) q1234 miX11_init (by rw [t28]; decide) rfl dX9_init_24 (xle (xal1 (rv_cat _) (xal1 (rv_cat _) xal0)) (by decide)) (xfr g31) (xlo (xsw1 (rv_cat _) (xsw1 (rv_cat _) xsw0)) (by decide) g32) (xKv hq (fun h33 hq e35 => ?_) (fun _ _ q _ => q))
  replace hq := hq e35
  have t36 : tg h33 x0 = 10 := e35.tg t30 (by decide)
  obtain ⟨h37, e38⟩ : ∃ y, y = sR h33 x0 2306 a23 := ⟨_, rfl⟩
  replace hq := hq h37 e38
  refine x_putFR fdX9_23 owX9_init_2 xty_O dX9_init_27 t36 (Or.inl (by rw [t36]; rfl)) rfl e38 ?_
  refine x_aload_n 0 dX9_init_30 rfl ?_
  refine x_ldc (v := 40000) q1297 dX9_init_31 ?_
  obtain ⟨g39, g40, hq⟩ := hq
  obtain ⟨a41, e43⟩ : ∃ y, y = nx h37 + 1 := ⟨_, rfl⟩
  obtain ⟨h42, e44⟩ : ∃ y, y = nA h37 101 (Int32.toNatClampNeg 40000) := ⟨_, rfl⟩
  refine x_newa' 1 pk_long dX9_init_33 (by decide) (by decide) g39 g40 e43 e44 (fun f45 => ?_)
  replace hq := hq a41 h42 e43 e44 f45
  have t46 : tg h42 a41 = 101 := by rw [e44, e43]; exact tg_nA
  have t47 : tg h37 x0 = 10 := by rw [e38]; exact t36
  have t48 : tg h42 x0 = 10 := by rw [e44]; exact tg_nA_ne e43 f45 t47 (by decide)
  obtain ⟨h49, e50⟩ : ∃ y, y = sR h42 x0 2307 a41 := ⟨_, rfl⟩
  replace hq := hq h49 e50
  refine x_putFR fdX9_28 owX9_init_3 xty_A dX9_init_35 t48 (Or.inl (by rw [t48]; rfl)) rfl e50 ?_
  refine x_aload_n 0 dX9_init_38 rfl ?_
  refine x_ldc (v := 40000) q1297 dX9_init_39 ?_
  obtain ⟨g51, g52, hq⟩ := hq
  obtain ⟨a53, e55⟩ : ∃ y, y = nx h49 + 1 := ⟨_, rfl⟩
  obtain ⟨h54, e56⟩ : ∃ y, y = nA h49 101 (Int32.toNatClampNeg 40000) := ⟨_, rfl⟩
  refine x_newa' 1 pk_long dX9_init_41 (by decide) (by decide) g51 g52 e55 e56 (fun f57 => ?_)
  replace hq := hq a53 h54 e55 e56 f57
  have t58 : tg h54 a53 = 101 := by rw [e56, e55]; exact tg_nA
  have t59 : tg h49 x0 = 10 := by rw [e50]; exact t48
  have t60 : tg h54 x0 = 10 := by rw [e56]; exact tg_nA_ne e55 f57 t59 (by decide)
  obtain ⟨h61, e62⟩ : ∃ y, y = sR h54 x0 2308 a53 := ⟨_, rfl⟩
  replace hq := hq h61 e62
  refine x_putFR fdX9_32 owX9_init_4 xty_A dX9_init_43 t60 (Or.inl (by rw [t60]; rfl)) rfl e62 ?_
  refine x_aload_n 0 dX9_init_46 rfl ?_
  refine x_ldc (v := 40000) q1297 dX9_init_47 ?_
  obtain ⟨g63, g64, hq⟩ := hq
  obtain ⟨a65, e67⟩ : ∃ y, y = nx h61 + 1 := ⟨_, rfl⟩
  obtain ⟨h66, e68⟩ : ∃ y, y = nA h61 102 (Int32.toNatClampNeg 40000) := ⟨_, rfl⟩
  refine x_newa' 2 pk_double dX9_init_49 (by decide) (by decide) g63 g64 e67 e68 (fun f69 => ?_)
  replace hq := hq a65 h66 e67 e68 f69
  have t70 : tg h66 a65 = 102 := by rw [e68, e67]; exact tg_nA
  have t71 : tg h61 x0 = 10 := by rw [e62]; exact t60
  have t72 : tg h66 x0 = 10 := by rw [e68]; exact tg_nA_ne e67 f69 t71 (by decide)
  obtain ⟨h73, e74⟩ : ∃ y, y = sR h66 x0 2309 a65 := ⟨_, rfl⟩
  replace hq := hq h73 e74
  refine x_putFR fdX9_35 owX9_init_5 xty_A dX9_init_51 t72 (Or.inl (by rw [t72]; rfl)) rfl e74 ?_
  refine x_aload_n 0 dX9_init_54 rfl ?_
  refine x_bipush (v := 32) dX9_init_55 (by decide) ?_
  obtain ⟨g75, g76, hq⟩ := hq
  obtain ⟨a77, e79⟩ : ∃ y, y = nx h73 + 1 := ⟨_, rfl⟩
  obtain ⟨h78, e80⟩ : ∃ y, y = nA h73 100 (Int32.toNatClampNeg 32) := ⟨_, rfl⟩
  refine x_newa' 0 pk_int dX9_init_57 (by decide) (by decide) g75 g76 e79 e80 (fun f81 => ?_)
  replace hq := hq a77 h78 e79 e80 f81
  have t82 : tg h78 a77 = 100 := by rw [e80, e79]; exact tg_nA
  have t83 : tg h73 x0 = 10 := by rw [e74]; exact t72
  have t84 : tg h78 x0 = 10 := by rw [e80]; exact tg_nA_ne e79 f81 t83 (by decide)
  obtain ⟨h85, e86⟩ : ∃ y, y = sR h78 x0 2312 a77 := ⟨_, rfl⟩
  replace hq := hq h85 e86
  refine x_putFR fdX9_39 owX9_init_8 xty_A dX9_init_59 t84 (Or.inl (by rw [t84]; rfl)) rfl e86 ?_
  refine x_aload_n 0 dX9_init_62 rfl ?_
  refine x_bipush (v := 32) dX9_init_63 (by decide) ?_
  obtain ⟨g87, g88, hq⟩ := hq
  obtain ⟨a89, e91⟩ : ∃ y, y = nx h85 + 1 := ⟨_, rfl⟩
  obtain ⟨h90, e92⟩ : ∃ y, y = nA h85 100 (Int32.toNatClampNeg 32) := ⟨_, rfl⟩
  refine x_newa' 0 pk_int dX9_init_65 (by decide) (by decide) g87 g88 e91 e92 (fun f93 => ?_)
  replace hq := hq a89 h90 e91 e92 f93
  have t94 : tg h90 a89 = 100 := by rw [e92, e91]; exact tg_nA
  have t95 : tg h85 x0 = 10 := by rw [e86]; exact t84
  have t96 : tg h90 x0 = 10 := by rw [e92]; exact tg_nA_ne e91 f93 t95 (by decide)
  obtain ⟨h97, e98⟩ : ∃ y, y = sR h90 x0 2313 a89 := ⟨_, rfl⟩
  replace hq := hq h97 e98
  refine x_putFR fdX9_43 owX9_init_9 xty_A dX9_init_67 t96 (Or.inl (by rw [t96]; rfl)) rfl e98 ?_
  refine x_aload_n 0 dX9_init_70 rfl ?_
  refine x_bipush (v := 32) dX9_init_71 (by decide) ?_
  obtain ⟨g99, g100, hq⟩ := hq
  obtain ⟨a101, e103⟩ : ∃ y, y = nx h97 + 1 := ⟨_, rfl⟩
  obtain ⟨h102, e104⟩ : ∃ y, y = nA h97 100 (Int32.toNatClampNeg 32) := ⟨_, rfl⟩
  refine x_newa' 0 pk_int dX9_init_73 (by decide) (by decide) g99 g100 e103 e104 (fun f105 => ?_)
  replace hq := hq a101 h102 e103 e104 f105
  have t106 : tg h102 a101 = 100 := by rw [e104, e103]; exact tg_nA
  have t107 : tg h97 x0 = 10 := by rw [e98]; exact t96
  have t108 : tg h102 x0 = 10 := by rw [e104]; exact tg_nA_ne e103 f105 t107 (by decide)
  obtain ⟨h109, e110⟩ : ∃ y, y = sR h102 x0 2314 a101 := ⟨_, rfl⟩
  replace hq := hq h109 e110
  refine x_putFR fdX9_46 owX9_init_10 xty_A dX9_init_75 t108 (Or.inl (by rw [t108]; rfl)) rfl e110 ?_
  refine x_aload_n 0 dX9_init_78 rfl ?_
  refine x_bipush (v := 32) dX9_init_79 (by decide) ?_
  obtain ⟨g111, g112, hq⟩ := hq
  obtain ⟨a113, e115⟩ : ∃ y, y = nx h109 + 1 := ⟨_, rfl⟩
  obtain ⟨h114, e116⟩ : ∃ y, y = nA h109 100 (Int32.toNatClampNeg 32) := ⟨_, rfl⟩
  refine x_newa' 0 pk_int dX9_init_81 (by decide) (by decide) g111 g112 e115 e116 (fun f117 => ?_)
  replace hq := hq a113 h114 e115 e116 f117
  have t118 : tg h114 a113 = 100 := by rw [e116, e115]; exact tg_nA
  have t119 : tg h109 x0 = 10 := by rw [e110]; exact t108
  have t120 : tg h114 x0 = 10 := by rw [e116]; exact tg_nA_ne e115 f117 t119 (by decide)
  obtain ⟨h121, e122⟩ : ∃ y, y = sR h114 x0 2315 a113 := ⟨_, rfl⟩
  replace hq := hq h121 e122
  refine x_putFR fdX9_49 owX9_init_11 xty_A dX9_init_83 t120 (Or.inl (by rw [t120]; rfl)) rfl e122 ?_
  refine x_aload_n 0 dX9_init_86 rfl ?_
  refine x_bipush (v := 32) dX9_init_87 (by decide) ?_
  obtain ⟨g123, g124, hq⟩ := hq
  obtain ⟨a125, e127⟩ : ∃ y, y = nx h121 + 1 := ⟨_, rfl⟩
  obtain ⟨h126, e128⟩ : ∃ y, y = nA h121 100 (Int32.toNatClampNeg 32) := ⟨_, rfl⟩
  refine x_newa' 0 pk_int dX9_init_89 (by decide) (by decide) g123 g124 e127 e128 (fun f129 => ?_)
  replace hq := hq a125 h126 e127 e128 f129
  have t130 : tg h126 a125 = 100 := by rw [e128, e127]; exact tg_nA
  have t131 : tg h121 x0 = 10 := by rw [e122]; exact t120
  have t132 : tg h126 x0 = 10 := by rw [e128]; exact tg_nA_ne e127 f129 t131 (by decide)
  obtain ⟨h133, e134⟩ : ∃ y, y = sR h126 x0 2316 a125 := ⟨_, rfl⟩
  replace hq := hq h133 e134
  refine x_putFR fdX9_52 owX9_init_12 xty_A dX9_init_91 t132 (Or.inl (by rw [t132]; rfl)) rfl e134 ?_
  refine x_aload_n 0 dX9_init_94 rfl ?_
  refine x_bipush (v := 32) dX9_init_95 (by decide) ?_
  obtain ⟨g135, g136, hq⟩ := hq
  obtain ⟨a137, e139⟩ : ∃ y, y = nx h133 + 1 := ⟨_, rfl⟩
  obtain ⟨h138, e140⟩ : ∃ y, y = nA h133 107 (Int32.toNatClampNeg 32) := ⟨_, rfl⟩
  refine x_anew 7 anX9_55 dX9_init_97 (by decide) (by decide) g135 g136 e139 e140 (fun f141 => ?_)
  replace hq := hq a137 h138 e139 e140 f141
  have t142 : tg h138 a137 = 107 := by rw [e140, e139]; exact tg_nA
  have t143 : tg h133 x0 = 10 := by rw [e134]; exact t132
  have t144 : tg h138 x0 = 10 := by rw [e140]; exact tg_nA_ne e139 f141 t143 (by decide)
  obtain ⟨h145, e146⟩ : ∃ y, y = sR h138 x0 2317 a137 := ⟨_, rfl⟩
  replace hq := hq h145 e146
  refine x_putFR fdX9_57 owX9_init_13 xty_A dX9_init_100 t144 (Or.inl (by rw [t144]; rfl)) rfl e146 ?_
  refine x_aload_n 0 dX9_init_103 rfl ?_
  refine x_sipush (v := 4096) dX9_init_104 (by decide) ?_
  obtain ⟨g147, g148, hq⟩ := hq
  obtain ⟨a149, e151⟩ : ∃ y, y = nx h145 + 1 := ⟨_, rfl⟩
  obtain ⟨h150, e152⟩ : ∃ y, y = nA h145 101 (Int32.toNatClampNeg 4096) := ⟨_, rfl⟩
  refine x_newa' 1 pk_long dX9_init_107 (by decide) (by decide) g147 g148 e151 e152 (fun f153 => ?_)
  replace hq := hq a149 h150 e151 e152 f153
  have t154 : tg h150 a149 = 101 := by rw [e152, e151]; exact tg_nA
  have t155 : tg h145 x0 = 10 := by rw [e146]; exact t144
  have t156 : tg h150 x0 = 10 := by rw [e152]; exact tg_nA_ne e151 f153 t155 (by decide)
  obtain ⟨h157, e158⟩ : ∃ y, y = sR h150 x0 2318 a149 := ⟨_, rfl⟩
  replace hq := hq h157 e158
  refine x_putFR fdX9_61 owX9_init_14 xty_A dX9_init_109 t156 (Or.inl (by rw [t156]; rfl)) rfl e158 ?_
  refine x_aload_n 0 dX9_init_112 rfl ?_
  refine x_sipush (v := 10001) dX9_init_113 (by decide) ?_
  obtain ⟨g159, g160, hq⟩ := hq
  obtain ⟨a161, e163⟩ : ∃ y, y = nx h157 + 1 := ⟨_, rfl⟩
  obtain ⟨h162, e164⟩ : ∃ y, y = nA h157 100 (Int32.toNatClampNeg 10001) := ⟨_, rfl⟩
  refine x_newa' 0 pk_int dX9_init_116 (by decide) (by decide) g159 g160 e163 e164 (fun f165 => ?_)
  replace hq := hq a161 h162 e163 e164 f165
  have t166 : tg h162 a161 = 100 := by rw [e164, e163]; exact tg_nA
  have t167 : tg h157 x0 = 10 := by rw [e158]; exact t156
  have t168 : tg h162 x0 = 10 := by rw [e164]; exact tg_nA_ne e163 f165 t167 (by decide)
  obtain ⟨h169, e170⟩ : ∃ y, y = sR h162 x0 2321 a161 := ⟨_, rfl⟩
  replace hq := hq h169 e170
  refine x_putFR fdX9_64 owX9_init_17 xty_A dX9_init_118 t168 (Or.inl (by rw [t168]; rfl)) rfl e170 ?_
  refine x_aload_n 0 dX9_init_121 rfl ?_
  refine x_sipush (v := 10001) dX9_init_122 (by decide) ?_
  obtain ⟨g171, g172, hq⟩ := hq
  obtain ⟨a173, e175⟩ : ∃ y, y = nx h169 + 1 := ⟨_, rfl⟩
  obtain ⟨h174, e176⟩ : ∃ y, y = nA h169 104 (Int32.toNatClampNeg 10001) := ⟨_, rfl⟩
  refine x_newa' 4 pk_boolean dX9_init_125 (by decide) (by decide) g171 g172 e175 e176 (fun f177 => ?_)
  replace hq := hq a173 h174 e175 e176 f177
  have t178 : tg h174 a173 = 104 := by rw [e176, e175]; exact tg_nA
  have t179 : tg h169 x0 = 10 := by rw [e170]; exact t168
  have t180 : tg h174 x0 = 10 := by rw [e176]; exact tg_nA_ne e175 f177 t179 (by decide)
  obtain ⟨h181, e182⟩ : ∃ y, y = sR h174 x0 2322 a173 := ⟨_, rfl⟩
  replace hq := hq h181 e182
  refine x_putFR fdX9_67 owX9_init_18 xty_A dX9_init_127 t180 (Or.inl (by rw [t180]; rfl)) rfl e182 ?_
  refine x_aload_n 0 dX9_init_130 rfl ?_
  refine x_sipush (v := 6000) dX9_init_131 (by decide) ?_
  obtain ⟨g183, g184, hq⟩ := hq
  obtain ⟨a185, e187⟩ : ∃ y, y = nx h181 + 1 := ⟨_, rfl⟩
  obtain ⟨h186, e188⟩ : ∃ y, y = nA h181 103 (Int32.toNatClampNeg 6000) := ⟨_, rfl⟩
  refine x_newa' 3 pk_byte dX9_init_134 (by decide) (by decide) g183 g184 e187 e188 (fun f189 => ?_)
  replace hq := hq a185 h186 e187 e188 f189
  have t190 : tg h186 a185 = 103 := by rw [e188, e187]; exact tg_nA
  have t191 : tg h181 x0 = 10 := by rw [e182]; exact t180
  have t192 : tg h186 x0 = 10 := by rw [e188]; exact tg_nA_ne e187 f189 t191 (by decide)
  obtain ⟨h193, e194⟩ : ∃ y, y = sR h186 x0 2333 a185 := ⟨_, rfl⟩
  replace hq := hq h193 e194
  refine x_putFR fdX9_71 owX9_init_29 xty_A dX9_init_136 t192 (Or.inl (by rw [t192]; rfl)) rfl e194 ?_
  refine x_aload_n 0 dX9_init_139 rfl ?_
  refine x_aload_n 1 dX9_init_140 rfl ?_
  have t195 : tg h193 x0 = 10 := by rw [e194]; exact t192
  obtain ⟨h196, e197⟩ : ∃ y, y = sR h193 x0 2304 x1 := ⟨_, rfl⟩
  replace hq := hq h196 e197
  refine x_putFR fdX9_75 owX9_init_0 xty_O dX9_init_141 t195 (Or.inl (by rw [t195]; rfl)) rfl e197 ?_
  exact x_vret rfl dX9_init_144 hq
theorem rX9_init {G : xG} {fr lo : Nat} {x0 : Nat} {x1 : Nat} {h : xH} {Q : Outcome → xH → Prop} (hq : bX9_init G fr lo x0 x1 h Q) : xR G YX9_init fr lo [rv x0, rv x1] h Q := by
  show xP _ _ _ _ _ (lv_args 0 _) _ _ _
  rw [show lv_args 0 [rv x0, rv x1] = [(0, rv x0), (1, rv x1)] from (xla1 (rv_cat _) (xla1 (rv_cat _) xla0))]
  exact uX9_init hq
set_option maxRecDepth 100000 in
theorem dX9_begin_0 : decode cX9_begin 0 = .ok (.aload_n 0, 1) := by decide +kernel
set_option maxRecDepth 100000 in
theorem dX9_begin_1 : decode cX9_begin 1 = .ok (.iconst 0, 1) := by decide +kernel
set_option maxRecDepth 100000 in
theorem dX9_begin_2 : decode cX9_begin 2 = .ok (.putfield 86, 3) := by decide +kernel
set_option maxRecDepth 100000 in
theorem dX9_begin_5 : decode cX9_begin 5 = .ok (.aload_n 0, 1) := by decide +kernel
set_option maxRecDepth 100000 in
theorem dX9_begin_6 : decode cX9_begin 6 = .ok (.iconst 0, 1) := by decide +kernel
set_option maxRecDepth 100000 in
theorem dX9_begin_7 : decode cX9_begin 7 = .ok (.putfield 89, 3) := by decide +kernel
set_option maxRecDepth 100000 in
theorem dX9_begin_10 : decode cX9_begin 10 = .ok (.aload_n 0, 1) := by decide +kernel
set_option maxRecDepth 100000 in
theorem dX9_begin_11 : decode cX9_begin 11 = .ok (.aload_n 1, 1) := by decide +kernel
set_option maxRecDepth 100000 in
theorem dX9_begin_12 : decode cX9_begin 12 = .ok (.getfield 92, 3) := by decide +kernel
set_option maxRecDepth 100000 in
theorem dX9_begin_15 : decode cX9_begin 15 = .ok (.putfield 95, 3) := by decide +kernel
set_option maxRecDepth 100000 in
theorem dX9_begin_18 : decode cX9_begin 18 = .ok (.aload_n 0, 1) := by decide +kernel
set_option maxRecDepth 100000 in
theorem dX9_begin_19 : decode cX9_begin 19 = .ok (.iconst 0, 1) := by decide +kernel
set_option maxRecDepth 100000 in
theorem dX9_begin_20 : decode cX9_begin 20 = .ok (.putfield 79, 3) := by decide +kernel
set_option maxRecDepth 100000 in
theorem dX9_begin_23 : decode cX9_begin 23 = .ok (.aload_n 0, 1) := by decide +kernel
set_option maxRecDepth 100000 in
theorem dX9_begin_24 : decode cX9_begin 24 = .ok (.iconst (-1), 1) := by decide +kernel
set_option maxRecDepth 100000 in
theorem dX9_begin_25 : decode cX9_begin 25 = .ok (.putfield 83, 3) := by decide +kernel
set_option maxRecDepth 100000 in
theorem dX9_begin_28 : decode cX9_begin 28 = .ok (.aload_n 0, 1) := by decide +kernel
set_option maxRecDepth 100000 in
theorem dX9_begin_29 : decode cX9_begin 29 = .ok (.iconst 0, 1) := by decide +kernel
set_option maxRecDepth 100000 in
theorem dX9_begin_30 : decode cX9_begin 30 = .ok (.putfield 98, 3) := by decide +kernel
set_option maxRecDepth 100000 in
theorem dX9_begin_33 : decode cX9_begin 33 = .ok (.aload_n 0, 1) := by decide +kernel
set_option maxRecDepth 100000 in
theorem dX9_begin_34 : decode cX9_begin 34 = .ok (.iload_n 2, 1) := by decide +kernel
set_option maxRecDepth 100000 in
theorem dX9_begin_35 : decode cX9_begin 35 = .ok (.putfield 101, 3) := by decide +kernel
set_option maxRecDepth 100000 in
theorem dX9_begin_38 : decode cX9_begin 38 = .ok (.aload_n 0, 1) := by decide +kernel
set_option maxRecDepth 100000 in
theorem dX9_begin_39 : decode cX9_begin 39 = .ok (.iconst 0, 1) := by decide +kernel
set_option maxRecDepth 100000 in
theorem dX9_begin_40 : decode cX9_begin 40 = .ok (.putfield 104, 3) := by decide +kernel
set_option maxRecDepth 100000 in
theorem dX9_begin_43 : decode cX9_begin 43 = .ok (.aload_n 0, 1) := by decide +kernel
set_option maxRecDepth 100000 in
theorem dX9_begin_44 : decode cX9_begin 44 = .ok (.aload_n 1, 1) := by decide +kernel
set_option maxRecDepth 100000 in
theorem dX9_begin_45 : decode cX9_begin 45 = .ok (.getfield 92, 3) := by decide +kernel
set_option maxRecDepth 100000 in
theorem dX9_begin_48 : decode cX9_begin 48 = .ok (.putfield 107, 3) := by decide +kernel
set_option maxRecDepth 100000 in
theorem dX9_begin_51 : decode cX9_begin 51 = .ok (.aload_n 0, 1) := by decide +kernel
set_option maxRecDepth 100000 in
theorem dX9_begin_52 : decode cX9_begin 52 = .ok (.iconst 0, 1) := by decide +kernel
set_option maxRecDepth 100000 in
theorem dX9_begin_53 : decode cX9_begin 53 = .ok (.putfield 110, 3) := by decide +kernel
set_option maxRecDepth 100000 in
theorem dX9_begin_56 : decode cX9_begin 56 = .ok (.aload_n 0, 1) := by decide +kernel
set_option maxRecDepth 100000 in
theorem dX9_begin_57 : decode cX9_begin 57 = .ok (.iconst 0, 1) := by decide +kernel
set_option maxRecDepth 100000 in
theorem dX9_begin_58 : decode cX9_begin 58 = .ok (.putfield 114, 3) := by decide +kernel
set_option maxRecDepth 100000 in
theorem dX9_begin_61 : decode cX9_begin 61 = .ok (.aload_n 0, 1) := by decide +kernel
set_option maxRecDepth 100000 in
theorem dX9_begin_62 : decode cX9_begin 62 = .ok (.iconst 0, 1) := by decide +kernel
set_option maxRecDepth 100000 in
theorem dX9_begin_63 : decode cX9_begin 63 = .ok (.putfield 117, 3) := by decide +kernel
set_option maxRecDepth 100000 in
theorem dX9_begin_66 : decode cX9_begin 66 = .ok (.aload_n 0, 1) := by decide +kernel
set_option maxRecDepth 100000 in
theorem dX9_begin_67 : decode cX9_begin 67 = .ok (.iconst 0, 1) := by decide +kernel
set_option maxRecDepth 100000 in
theorem dX9_begin_68 : decode cX9_begin 68 = .ok (.putfield 120, 3) := by decide +kernel
set_option maxRecDepth 100000 in
theorem dX9_begin_71 : decode cX9_begin 71 = .ok (.aload_n 0, 1) := by decide +kernel
set_option maxRecDepth 100000 in
theorem dX9_begin_72 : decode cX9_begin 72 = .ok (.getfield 23, 3) := by decide +kernel
set_option maxRecDepth 100000 in
theorem dX9_begin_75 : decode cX9_begin 75 = .ok (.invokevirtual 123, 3) := by decide +kernel
set_option maxRecDepth 100000 in
theorem dX9_begin_78 : decode cX9_begin 78 = .ok (.aload_n 0, 1) := by decide +kernel
set_option maxRecDepth 100000 in
theorem dX9_begin_79 : decode cX9_begin 79 = .ok (.getfield 39, 3) := by decide +kernel
set_option maxRecDepth 100000 in
theorem dX9_begin_82 : decode cX9_begin 82 = .ok (.iconst 0, 1) := by decide +kernel
set_option maxRecDepth 100000 in
theorem dX9_begin_83 : decode cX9_begin 83 = .ok (.iconst 0, 1) := by decide +kernel
set_option maxRecDepth 100000 in
theorem dX9_begin_84 : decode cX9_begin 84 = .ok (.iastore, 1) := by decide +kernel
set_option maxRecDepth 100000 in
theorem dX9_begin_85 : decode cX9_begin 85 = .ok (.aload_n 0, 1) := by decide +kernel
set_option maxRecDepth 100000 in
theorem dX9_begin_86 : decode cX9_begin 86 = .ok (.getfield 43, 3) := by decide +kernel
set_option maxRecDepth 100000 in
theorem dX9_begin_89 : decode cX9_begin 89 = .ok (.iconst 0, 1) := by decide +kernel
set_option maxRecDepth 100000 in
theorem dX9_begin_90 : decode cX9_begin 90 = .ok (.iconst (-1), 1) := by decide +kernel
set_option maxRecDepth 100000 in
theorem dX9_begin_91 : decode cX9_begin 91 = .ok (.iastore, 1) := by decide +kernel
set_option maxRecDepth 100000 in
theorem dX9_begin_92 : decode cX9_begin 92 = .ok (.aload_n 0, 1) := by decide +kernel
set_option maxRecDepth 100000 in
theorem dX9_begin_93 : decode cX9_begin 93 = .ok (.getfield 49, 3) := by decide +kernel
set_option maxRecDepth 100000 in
theorem dX9_begin_96 : decode cX9_begin 96 = .ok (.iconst 0, 1) := by decide +kernel
set_option maxRecDepth 100000 in
theorem dX9_begin_97 : decode cX9_begin 97 = .ok (.iconst 0, 1) := by decide +kernel
set_option maxRecDepth 100000 in
theorem dX9_begin_98 : decode cX9_begin 98 = .ok (.iastore, 1) := by decide +kernel
set_option maxRecDepth 100000 in
theorem dX9_begin_99 : decode cX9_begin 99 = .ok (.aload_n 0, 1) := by decide +kernel
set_option maxRecDepth 100000 in
theorem dX9_begin_100 : decode cX9_begin 100 = .ok (.getfield 57, 3) := by decide +kernel
set_option maxRecDepth 100000 in
theorem dX9_begin_103 : decode cX9_begin 103 = .ok (.iconst 0, 1) := by decide +kernel
set_option maxRecDepth 100000 in
theorem dX9_begin_104 : decode cX9_begin 104 = .ok (.aload_n 1, 1) := by decide +kernel
set_option maxRecDepth 100000 in
theorem dX9_begin_105 : decode cX9_begin 105 = .ok (.aastore, 1) := by decide +kernel
set_option maxRecDepth 100000 in
theorem dX9_begin_106 : decode cX9_begin 106 = .ok (.aload_n 0, 1) := by decide +kernel
set_option maxRecDepth 100000 in
theorem dX9_begin_107 : decode cX9_begin 107 = .ok (.aload_n 1, 1) := by decide +kernel
set_option maxRecDepth 100000 in
theorem dX9_begin_108 : decode cX9_begin 108 = .ok (.getfield 126, 3) := by decide +kernel
set_option maxRecDepth 100000 in
theorem dX9_begin_111 : decode cX9_begin 111 = .ok (.putfield 129, 3) := by decide +kernel
set_option maxRecDepth 100000 in
theorem dX9_begin_114 : decode cX9_begin 114 = .ok (.iconst 0, 1) := by decide +kernel
set_option maxRecDepth 100000 in
theorem dX9_begin_115 : decode cX9_begin 115 = .ok (.istore_n 3, 1) := by decide +kernel
set_option maxRecDepth 100000 in
theorem dX9_begin_116 : decode cX9_begin 116 = .ok (.iload_n 3, 1) := by decide +kernel
set_option maxRecDepth 100000 in
theorem dX9_begin_117 : decode cX9_begin 117 = .ok (.aload_n 0, 1) := by decide +kernel
set_option maxRecDepth 100000 in
theorem dX9_begin_118 : decode cX9_begin 118 = .ok (.getfield 75, 3) := by decide +kernel
set_option maxRecDepth 100000 in
theorem dX9_begin_121 : decode cX9_begin 121 = .ok (.getfield 132, 3) := by decide +kernel
set_option maxRecDepth 100000 in
theorem dX9_begin_124 : decode cX9_begin 124 = .ok (.if_icmp .ge 31, 3) := by decide +kernel
set_option maxRecDepth 100000 in
theorem dX9_begin_127 : decode cX9_begin 127 = .ok (.aload_n 0, 1) := by decide +kernel
set_option maxRecDepth 100000 in
theorem dX9_begin_128 : decode cX9_begin 128 = .ok (.getfield 12, 3) := by decide +kernel
set_option maxRecDepth 100000 in
theorem dX9_begin_131 : decode cX9_begin 131 = .ok (.sipush 30000, 3) := by decide +kernel
set_option maxRecDepth 100000 in
theorem dX9_begin_134 : decode cX9_begin 134 = .ok (.iload_n 3, 1) := by decide +kernel
set_option maxRecDepth 100000 in
theorem dX9_begin_135 : decode cX9_begin 135 = .ok (.iadd, 1) := by decide +kernel
set_option maxRecDepth 100000 in
theorem dX9_begin_136 : decode cX9_begin 136 = .ok (.aload_n 0, 1) := by decide +kernel
set_option maxRecDepth 100000 in
theorem dX9_begin_137 : decode cX9_begin 137 = .ok (.getfield 75, 3) := by decide +kernel
set_option maxRecDepth 100000 in
theorem dX9_begin_140 : decode cX9_begin 140 = .ok (.getfield 137, 3) := by decide +kernel
set_option maxRecDepth 100000 in
theorem dX9_begin_143 : decode cX9_begin 143 = .ok (.iload_n 3, 1) := by decide +kernel
set_option maxRecDepth 100000 in
theorem dX9_begin_144 : decode cX9_begin 144 = .ok (.baload, 1) := by decide +kernel
set_option maxRecDepth 100000 in
theorem dX9_begin_145 : decode cX9_begin 145 = .ok (.i2l, 1) := by decide +kernel
set_option maxRecDepth 100000 in
theorem dX9_begin_146 : decode cX9_begin 146 = .ok (.invokevirtual 140, 3) := by decide +kernel
set_option maxRecDepth 100000 in
theorem dX9_begin_149 : decode cX9_begin 149 = .ok (.iinc 3 1, 3) := by decide +kernel
set_option maxRecDepth 100000 in
theorem dX9_begin_152 : decode cX9_begin 152 = .ok (.goto (-36), 3) := by decide +kernel
set_option maxRecDepth 100000 in
theorem dX9_begin_155 : decode cX9_begin 155 = .ok (.aload_n 1, 1) := by decide +kernel
set_option maxRecDepth 100000 in
theorem dX9_begin_156 : decode cX9_begin 156 = .ok (.getfield 92, 3) := by decide +kernel
set_option maxRecDepth 100000 in
theorem dX9_begin_159 : decode cX9_begin 159 = .ok (.sipush 20000, 3) := by decide +kernel
set_option maxRecDepth 100000 in
theorem dX9_begin_162 : decode cX9_begin 162 = .ok (.if_icmp .le 21, 3) := by decide +kernel
set_option maxRecDepth 100000 in
theorem dX9_begin_165 : decode cX9_begin 165 = .ok (.aload_n 0, 1) := by decide +kernel
set_option maxRecDepth 100000 in
theorem dX9_begin_166 : decode cX9_begin 166 = .ok (.iconst 0, 1) := by decide +kernel
set_option maxRecDepth 100000 in
theorem dX9_begin_167 : decode cX9_begin 167 = .ok (.putfield 107, 3) := by decide +kernel
set_option maxRecDepth 100000 in
theorem dX9_begin_170 : decode cX9_begin 170 = .ok (.aload_n 0, 1) := by decide +kernel
set_option maxRecDepth 100000 in
theorem dX9_begin_171 : decode cX9_begin 171 = .ok (.bipush 14, 2) := by decide +kernel
set_option maxRecDepth 100000 in
theorem dX9_begin_173 : decode cX9_begin 173 = .ok (.aload_n 1, 1) := by decide +kernel
set_option maxRecDepth 100000 in
theorem dX9_begin_174 : decode cX9_begin 174 = .ok (.getfield 144, 3) := by decide +kernel
set_option maxRecDepth 100000 in
theorem dX9_begin_177 : decode cX9_begin 177 = .ok (.invokevirtual 147, 3) := by decide +kernel
set_option maxRecDepth 100000 in
theorem dX9_begin_180 : decode cX9_begin 180 = .ok (.goto 9, 3) := by decide +kernel
set_option maxRecDepth 100000 in
theorem dX9_begin_183 : decode cX9_begin 183 = .ok (.aload_n 0, 1) := by decide +kernel
set_option maxRecDepth 100000 in
theorem dX9_begin_184 : decode cX9_begin 184 = .ok (.aload_n 1, 1) := by decide +kernel
set_option maxRecDepth 100000 in
theorem dX9_begin_185 : decode cX9_begin 185 = .ok (.iconst 0, 1) := by decide +kernel
set_option maxRecDepth 100000 in
theorem dX9_begin_186 : decode cX9_begin 186 = .ok (.invokevirtual 151, 3) := by decide +kernel
set_option maxRecDepth 100000 in
theorem dX9_begin_189 : decode cX9_begin 189 = .ok (.return_, 1) := by decide +kernel
def lX9_begin_116 (G : xG) (fr lo : Nat) (x0 : Nat) (x1 : Nat) (x3 : Int32) (h : xH) (Q : Outcome → xH → Prop) : Prop := xP G YX9_begin fr lo 116 [(0, rv x0), (1, rv x1), (3, .int x3)] [] h Q
set_option maxRecDepth 100000 in
def bX9_begin_189 (G : xG) (fr lo : Nat) (h : xH) (Q : Outcome → xH → Prop) : Prop := Q (.returned none) h
set_option maxRecDepth 100000 in
theorem uX9_begin_189 {G : xG} {fr lo : Nat} {h : xH} {Q : Outcome → xH → Prop} (hq : bX9_begin_189 G fr lo h Q) : xP G YX9_begin fr lo 189 [] [] h Q := by
  unfold bX9_begin_189 at hq
  exact x_vret rfl dX9_begin_189 hq
set_option maxRecDepth 100000 in
def bX9_begin_116 (G : xG) (fr lo : Nat) (x0 : Nat) (x1 : Nat) (x3 : Int32) (h : xH) (Q : Outcome → xH → Prop) : Prop := tg h x0 = 10 ∧ tg h (fR h x0 2304) = 3 ∧ (((fI h (fR h x0 2304) 521) ≤ x3 → tg h x1 = 17 ∧ (((fI h x1 4104) ≤ 20000 → 1 ≤ fr ∧ 15 ≤ lo ∧ xRv G YX9_opens (fr - 1) (lo - 15) [rv x0, rv x1, .int 0] h (fun h8 => xext h h8 → bX9_begin_189 G fr lo h8 Q) (fun r h2 => Q (.threw r) h2)) ∧ (¬ (fI h x1 4104) ≤ 20000 → (∀ h11 : xH, h11 = sI h x0 2331 0 → 1 ≤ fr ∧ 14 ≤ lo ∧ xRv G YX9_fail (fr - 1) (lo - 14) [rv x0, .int 14, .int (fI h11 x1 4098)] h11 (fun h17 => xext h11 h17 → bX9_begin_189 G fr lo h17 Q) (fun r h2 => Q (.threw r) h2))))) ∧ (¬ (fI h (fR h x0 2304) 521) ≤ x3 → tg h (fR h (fR h x0 2304) 520) = 103 ∧ vp_in x3 (ln h (fR h (fR h x0 2304) 520)) ∧ tg h (fR h x0 2305) = 11 ∧ 1 ≤ fr ∧ 15 ≤ lo ∧ xRv G YX10_set (fr - 1) (lo - 15) [rv (fR h x0 2305), .int (30000 + x3), .long (Int32.toInt64 (aI h (fR h (fR h x0 2304) 520) (Int32.toNatClampNeg x3)))] h (fun h25 => xext h h25 → lX9_begin_116 G fr lo x0 x1 (x3 + 1) h25 Q) (fun r h2 => Q (.threw r) h2)))
set_option maxRecDepth 100000 in
theorem uX9_begin_116 {G : xG} {fr lo : Nat} {x0 : Nat} {x1 : Nat} {x3 : Int32} {h : xH} {Q : Outcome → xH → Prop} (hq : bX9_begin_116 G fr lo x0 x1 x3 h Q) : xP G YX9_begin fr lo 116 [(0, rv x0), (1, rv x1), (3, .int x3)] [] h Q := by
  unfold bX9_begin_116 at hq
  refine x_iload_n 2 dX9_begin_116 rfl ?_
  refine x_aload_n 0 dX9_begin_117 rfl ?_
  obtain ⟨g1, hq⟩ := hq
  refine x_get (v := rv (fR h x0 2304)) fdX9_75 dX9_begin_118 g1 rfl ?_
  obtain ⟨g2, hq⟩ := hq
  refine x_getN (v := .int (fI h (fR h x0 2304) 521)) gfX9_132 dX9_begin_121 g2 rfl ?_
  refine x_icmp_ge (tgt := 155) dX9_begin_124 (by decide) (fun c3 => ?_) (fun c3 => ?_)
  · replace hq := hq.1 c3
    refine x_aload_n 1 dX9_begin_155 rfl ?_
    obtain ⟨g4, hq⟩ := hq
    refine x_getN (v := .int (fI h x1 4104)) gfX9_92 dX9_begin_156 g4 rfl ?_
    refine x_sipush (v := 20000) dX9_begin_159 (by decide) ?_
    refine x_icmp_le (tgt := 183) dX9_begin_162 (by decide) (fun c5 => ?_) (fun c5 => ?_)
    · replace hq := hq.1 c5
      refine x_aload_n 0 dX9_begin_183 rfl ?_
      refine x_aload_n 1 dX9_begin_184 rfl ?_
      refine x_iconst (v := 0) dX9_begin_185 (by decide) ?_
      obtain ⟨g6, g7, hq⟩ := hq
      refine x_callV (Yc := YX9_opens) (as := [rv x1, .int 0]) (st := []) q2839 mvX9_opens g1 rfl dX9_begin_186 (xle (xal1 (rv_cat _) (xal1 (rv_cat _) (xal1 rfl xal0))) (by decide)) (xfr g6) (xlo xsw0 (by decide) g7) (xKv hq (fun h8 hq e10 => ?_) (fun _ _ q _ => q))
      replace hq := hq e10
      refine xP.pick (lv' := []) [] rfl ?_
      exact uX9_begin_189 hq
    · replace hq := hq.2 c5
      refine x_aload_n 0 dX9_begin_165 rfl ?_
      refine x_iconst (v := 0) dX9_begin_166 (by decide) ?_
      obtain ⟨h11, e12⟩ : ∃ y, y = sI h x0 2331 0 := ⟨_, rfl⟩
      replace hq := hq h11 e12
      refine x_putI fdX9_107 xty_I1 dX9_begin_167 g1 (Or.inl (by rw [g1]; rfl)) xnI rfl e12 ?_
      refine x_aload_n 0 dX9_begin_170 rfl ?_
      refine x_bipush (v := 14) dX9_begin_171 (by decide) ?_
      refine x_aload_n 1 dX9_begin_173 rfl ?_
      have t13 : tg h11 x1 = 17 := by rw [e12]; exact g4
      refine x_getN (v := .int (fI h11 x1 4098)) gfX9_144 dX9_begin_174 t13 rfl ?_
      have t14 : tg h11 x0 = 10 := by rw [e12]; exact g1
      obtain ⟨g15, g16, hq⟩ := hq
      refine x_callV (Yc := YX9_fail) (as := [.int 14, .int (fI h11 x1 4098)]) (st := []) q2835 mvX9_fail t14 rfl dX9_begin_177 (xle (xal1 (rv_cat _) (xal1 rfl (xal1 rfl xal0))) (by decide)) (xfr g15) (xlo xsw0 (by decide) g16) (xKv hq (fun h17 hq e19 => ?_) (fun _ _ q _ => q))
      replace hq := hq e19
      refine x_goto (tgt := 189) dX9_begin_180 (by decide) ?_
      refine xP.pick (lv' := []) [] rfl ?_
      exact uX9_begin_189 hq
  · replace hq := hq.2 c3
    refine x_aload_n 0 dX9_begin_127 rfl ?_
    refine x_get (v := rv (fR h x0 2305)) fdX9_12 dX9_begin_128 g1 rfl ?_
    refine x_sipush (v := 30000) dX9_begin_131 (by decide) ?_
    refine x_iload_n 2 dX9_begin_134 rfl ?_
    refine x_iadd dX9_begin_135 ?_
    refine x_aload_n 0 dX9_begin_136 rfl ?_
    refine x_get (v := rv (fR h x0 2304)) fdX9_75 dX9_begin_137 g1 rfl ?_
    refine x_getN (v := rv (fR h (fR h x0 2304) 520)) gfX9_137 dX9_begin_140 g2 rfl ?_
    refine x_iload_n 2 dX9_begin_143 rfl ?_
    obtain ⟨g20, hq⟩ := hq
    obtain ⟨i21, hq⟩ := hq
    refine x_bald g20 i21 dX9_begin_144 ?_
    refine x_i2l dX9_begin_145 ?_
    obtain ⟨g22, hq⟩ := hq
    obtain ⟨g23, g24, hq⟩ := hq
    refine x_callV (Yc := YX10_set) (as := [.int (30000 + x3), .long (Int32.toInt64 (aI h (fR h (fR h x0 2304) 520) (Int32.toNatClampNeg x3)))]) (st := []) q2831 mvX10_set g22 rfl dX9_begin_146 (xle (xal1 (rv_cat _) (xal1 rfl (xal2 rfl xal0))) (by decide)) (xfr g23) (xlo xsw0 (by decide) g24) (xKv hq (fun h25 hq e27 => ?_) (fun _ _ q _ => q))
    replace hq := hq e27
    refine x_iinc (lv' := [(3, .int (x3 + 1)), (0, rv x0), (1, rv x1)]) 2 dX9_begin_149 rfl (by decide) rfl ?_
    refine x_goto (tgt := 116) dX9_begin_152 (by decide) ?_
    refine xP.pick (lv' := [(0, rv x0), (1, rv x1), (3, .int (x3 + 1))]) [1, 2, 0] rfl ?_
    exact hq
set_option maxRecDepth 100000 in
def bX9_begin (G : xG) (fr lo : Nat) (x0 : Nat) (x1 : Nat) (x2 : Int32) (h : xH) (Q : Outcome → xH → Prop) : Prop := tg h x0 = 10 ∧ (∀ h2 : xH, h2 = sI h x0 2310 0 → (∀ h5 : xH, h5 = sI h2 x0 2319 0 → tg h5 x1 = 17 ∧ (∀ h9 : xH, h9 = sI h5 x0 2320 (fI h5 x1 4104) → (∀ h12 : xH, h12 = sI h9 x0 2326 0 → (∀ h15 : xH, h15 = sI h12 x0 2327 (-1) → (∀ h18 : xH, h18 = sI h15 x0 2328 0 → (∀ h21 : xH, h21 = sI h18 x0 2329 x2 → (∀ h24 : xH, h24 = sI h21 x0 2330 0 → (∀ h33 : xH, h33 = sI h24 x0 2331 (fI h24 x1 4104) → (∀ h36 : xH, h36 = sI h33 x0 2332 0 → (∀ h39 : xH, h39 = sI h36 x0 2323 0 → (∀ h42 : xH, h42 = sI h39 x0 2324 0 → (∀ h45 : xH, h45 = sI h42 x0 2325 0 → tg h45 (fR h45 x0 2306) = 12 ∧ 1 ≤ fr ∧ 13 ≤ lo ∧ xRv G YX11_begin (fr - 1) (lo - 13) [rv (fR h45 x0 2306)] h45 (fun h51 => xext h45 h51 → tg h51 (fR h51 x0 2312) = 100 ∧ vp_in 0 (ln h51 (fR h51 x0 2312)) ∧ (∀ h57 : xH, h57 = tI h51 (fR h51 x0 2312) (Int32.toNatClampNeg 0) 0 → tg h57 (fR h57 x0 2313) = 100 ∧ vp_in 0 (ln h57 (fR h57 x0 2313)) ∧ (∀ h62 : xH, h62 = tI h57 (fR h57 x0 2313) (Int32.toNatClampNeg 0) (-1) → tg h62 (fR h62 x0 2315) = 100 ∧ vp_in 0 (ln h62 (fR h62 x0 2315)) ∧ (∀ h67 : xH, h67 = tI h62 (fR h62 x0 2315) (Int32.toNatClampNeg 0) 0 → tg h67 (fR h67 x0 2317) = 107 ∧ vp_in 0 (ln h67 (fR h67 x0 2317)) ∧ (∀ h81 : xH, h81 = tR h67 (fR h67 x0 2317) (Int32.toNatClampNeg 0) x1 → (∀ h85 : xH, h85 = sI h81 x0 2311 (fI h81 x1 4103) → lX9_begin_116 G fr lo x0 x1 0 h85 Q)))))) (fun r h2 => Q (.threw r) h2))))))))))))))
set_option maxRecDepth 100000 in
theorem uX9_begin {G : xG} {fr lo : Nat} {x0 : Nat} {x1 : Nat} {x2 : Int32} {h : xH} {Q : Outcome → xH → Prop} (hq : bX9_begin G fr lo x0 x1 x2 h Q) : xP G YX9_begin fr lo 0 [(0, rv x0), (1, rv x1), (2, .int x2)] [] h Q := by
  unfold bX9_begin at hq
  refine x_aload_n 0 dX9_begin_0 rfl ?_
  refine x_iconst (v := 0) dX9_begin_1 (by decide) ?_
  obtain ⟨g1, hq⟩ := hq
  obtain ⟨h2, e3⟩ : ∃ y, y = sI h x0 2310 0 := ⟨_, rfl⟩
  replace hq := hq h2 e3
  refine x_putI fdX9_86 xty_I1 dX9_begin_2 g1 (Or.inl (by rw [g1]; rfl)) xnI rfl e3 ?_
  refine x_aload_n 0 dX9_begin_5 rfl ?_
  refine x_iconst (v := 0) dX9_begin_6 (by decide) ?_
  have t4 : tg h2 x0 = 10 := by rw [e3]; exact g1
  obtain ⟨h5, e6⟩ : ∃ y, y = sI h2 x0 2319 0 := ⟨_, rfl⟩
  replace hq := hq h5 e6
  refine x_putI fdX9_89 xty_I1 dX9_begin_7 t4 (Or.inl (by rw [t4]; rfl)) xnI rfl e6 ?_
  refine x_aload_n 0 dX9_begin_10 rfl ?_
  refine x_aload_n 1 dX9_begin_11 rfl ?_
  obtain ⟨g7, hq⟩ := hq
  refine x_getN (v := .int (fI h5 x1 4104)) gfX9_92 dX9_begin_12 g7 rfl ?_
  have t8 : tg h5 x0 = 10 := by rw [e6]; exact t4
  obtain ⟨h9, e10⟩ : ∃ y, y = sI h5 x0 2320 (fI h5 x1 4104) := ⟨_, rfl⟩
  replace hq := hq h9 e10
  refine x_putI fdX9_95 xty_I1 dX9_begin_15 t8 (Or.inl (by rw [t8]; rfl)) xnI rfl e10 ?_
  refine x_aload_n 0 dX9_begin_18 rfl ?_
  refine x_iconst (v := 0) dX9_begin_19 (by decide) ?_
  have t11 : tg h9 x0 = 10 := by rw [e10]; exact t8
  obtain ⟨h12, e13⟩ : ∃ y, y = sI h9 x0 2326 0 := ⟨_, rfl⟩
  replace hq := hq h12 e13
  refine x_putI fdX9_79 xty_I1 dX9_begin_20 t11 (Or.inl (by rw [t11]; rfl)) xnI rfl e13 ?_
  refine x_aload_n 0 dX9_begin_23 rfl ?_
  refine x_iconst (v := (-1)) dX9_begin_24 (by decide) ?_
  have t14 : tg h12 x0 = 10 := by rw [e13]; exact t11
  obtain ⟨h15, e16⟩ : ∃ y, y = sI h12 x0 2327 (-1) := ⟨_, rfl⟩
  replace hq := hq h15 e16
  refine x_putI fdX9_83 xty_I1 dX9_begin_25 t14 (Or.inl (by rw [t14]; rfl)) xnI rfl e16 ?_
  refine x_aload_n 0 dX9_begin_28 rfl ?_
  refine x_iconst (v := 0) dX9_begin_29 (by decide) ?_
  have t17 : tg h15 x0 = 10 := by rw [e16]; exact t14
  obtain ⟨h18, e19⟩ : ∃ y, y = sI h15 x0 2328 0 := ⟨_, rfl⟩
  replace hq := hq h18 e19
  refine x_putI fdX9_98 xty_I1 dX9_begin_30 t17 (Or.inl (by rw [t17]; rfl)) xnI rfl e19 ?_
  refine x_aload_n 0 dX9_begin_33 rfl ?_
  refine x_iload_n 2 dX9_begin_34 rfl ?_
  have t20 : tg h18 x0 = 10 := by rw [e19]; exact t17
  obtain ⟨h21, e22⟩ : ∃ y, y = sI h18 x0 2329 x2 := ⟨_, rfl⟩
  replace hq := hq h21 e22
  refine x_putI fdX9_101 xty_I1 dX9_begin_35 t20 (Or.inl (by rw [t20]; rfl)) xnI rfl e22 ?_
  refine x_aload_n 0 dX9_begin_38 rfl ?_
  refine x_iconst (v := 0) dX9_begin_39 (by decide) ?_
  have t23 : tg h21 x0 = 10 := by rw [e22]; exact t20
  obtain ⟨h24, e25⟩ : ∃ y, y = sI h21 x0 2330 0 := ⟨_, rfl⟩
  replace hq := hq h24 e25
  refine x_putI fdX9_104 xty_I1 dX9_begin_40 t23 (Or.inl (by rw [t23]; rfl)) xnI rfl e25 ?_
  refine x_aload_n 0 dX9_begin_43 rfl ?_
  refine x_aload_n 1 dX9_begin_44 rfl ?_
  have t26 : tg h9 x1 = 17 := by rw [e10]; exact g7
  have t27 : tg h12 x1 = 17 := by rw [e13]; exact t26
  have t28 : tg h15 x1 = 17 := by rw [e16]; exact t27
  have t29 : tg h18 x1 = 17 := by rw [e19]; exact t28
  have t30 : tg h21 x1 = 17 := by rw [e22]; exact t29
  have t31 : tg h24 x1 = 17 := by rw [e25]; exact t30
  refine x_getN (v := .int (fI h24 x1 4104)) gfX9_92 dX9_begin_45 t31 rfl ?_
  have t32 : tg h24 x0 = 10 := by rw [e25]; exact t23
  obtain ⟨h33, e34⟩ : ∃ y, y = sI h24 x0 2331 (fI h24 x1 4104) := ⟨_, rfl⟩
  replace hq := hq h33 e34
  refine x_putI fdX9_107 xty_I1 dX9_begin_48 t32 (Or.inl (by rw [t32]; rfl)) xnI rfl e34 ?_
  refine x_aload_n 0 dX9_begin_51 rfl ?_
  refine x_iconst (v := 0) dX9_begin_52 (by decide) ?_
  have t35 : tg h33 x0 = 10 := by rw [e34]; exact t32
  obtain ⟨h36, e37⟩ : ∃ y, y = sI h33 x0 2332 0 := ⟨_, rfl⟩
  replace hq := hq h36 e37
  refine x_putI fdX9_110 xty_Z1 dX9_begin_53 t35 (Or.inl (by rw [t35]; rfl)) (xnB (Or.inl rfl)) rfl e37 ?_
  refine x_aload_n 0 dX9_begin_56 rfl ?_
  refine x_iconst (v := 0) dX9_begin_57 (by decide) ?_
  have t38 : tg h36 x0 = 10 := by rw [e37]; exact t35
  obtain ⟨h39, e40⟩ : ∃ y, y = sI h36 x0 2323 0 := ⟨_, rfl⟩
  replace hq := hq h39 e40
  refine x_putI fdX9_114 xty_I1 dX9_begin_58 t38 (Or.inl (by rw [t38]; rfl)) xnI rfl e40 ?_
  refine x_aload_n 0 dX9_begin_61 rfl ?_
  refine x_iconst (v := 0) dX9_begin_62 (by decide) ?_
  have t41 : tg h39 x0 = 10 := by rw [e40]; exact t38
  obtain ⟨h42, e43⟩ : ∃ y, y = sI h39 x0 2324 0 := ⟨_, rfl⟩
  replace hq := hq h42 e43
  refine x_putI fdX9_117 xty_I1 dX9_begin_63 t41 (Or.inl (by rw [t41]; rfl)) xnI rfl e43 ?_
  refine x_aload_n 0 dX9_begin_66 rfl ?_
  refine x_iconst (v := 0) dX9_begin_67 (by decide) ?_
  have t44 : tg h42 x0 = 10 := by rw [e43]; exact t41
  obtain ⟨h45, e46⟩ : ∃ y, y = sI h42 x0 2325 0 := ⟨_, rfl⟩
  replace hq := hq h45 e46
  refine x_putI fdX9_120 xty_I1 dX9_begin_68 t44 (Or.inl (by rw [t44]; rfl)) xnI rfl e46 ?_
  refine x_aload_n 0 dX9_begin_71 rfl ?_
  have t47 : tg h45 x0 = 10 := by rw [e46]; exact t44
  refine x_get (v := rv (fR h45 x0 2306)) fdX9_23 dX9_begin_72 t47 rfl ?_
  obtain ⟨g48, hq⟩ := hq
  obtain ⟨g49, g50, hq⟩ := hq
  refine x_callV (Yc := YX11_begin) (as := []) (st := []) q2827 mvX11_begin g48 rfl dX9_begin_75 (xle (xal1 (rv_cat _) xal0) (by decide)) (xfr g49) (xlo xsw0 (by decide) g50) (xKv hq (fun h51 hq e53 => ?_) (fun _ _ q _ => q))
  replace hq := hq e53
  refine x_aload_n 0 dX9_begin_78 rfl ?_
  have t54 : tg h51 x0 = 10 := e53.tg t47 (by decide)
  refine x_get (v := rv (fR h51 x0 2312)) fdX9_39 dX9_begin_79 t54 rfl ?_
  refine x_iconst (v := 0) dX9_begin_82 (by decide) ?_
  refine x_iconst (v := 0) dX9_begin_83 (by decide) ?_
  obtain ⟨g55, hq⟩ := hq
  obtain ⟨i56, hq⟩ := hq
  obtain ⟨h57, e58⟩ : ∃ y, y = tI h51 (fR h51 x0 2312) (Int32.toNatClampNeg 0) 0 := ⟨_, rfl⟩
  replace hq := hq h57 e58
  refine x_iast' g55 i56 dX9_begin_84 e58 ?_
  refine x_aload_n 0 dX9_begin_85 rfl ?_
  have t59 : tg h57 x0 = 10 := by rw [e58]; exact t54
  refine x_get (v := rv (fR h57 x0 2313)) fdX9_43 dX9_begin_86 t59 rfl ?_
  refine x_iconst (v := 0) dX9_begin_89 (by decide) ?_
  refine x_iconst (v := (-1)) dX9_begin_90 (by decide) ?_
  obtain ⟨g60, hq⟩ := hq
  obtain ⟨i61, hq⟩ := hq
  obtain ⟨h62, e63⟩ : ∃ y, y = tI h57 (fR h57 x0 2313) (Int32.toNatClampNeg 0) (-1) := ⟨_, rfl⟩
  replace hq := hq h62 e63
  refine x_iast' g60 i61 dX9_begin_91 e63 ?_
  refine x_aload_n 0 dX9_begin_92 rfl ?_
  have t64 : tg h62 x0 = 10 := by rw [e63]; exact t59
  refine x_get (v := rv (fR h62 x0 2315)) fdX9_49 dX9_begin_93 t64 rfl ?_
  refine x_iconst (v := 0) dX9_begin_96 (by decide) ?_
  refine x_iconst (v := 0) dX9_begin_97 (by decide) ?_
  obtain ⟨g65, hq⟩ := hq
  obtain ⟨i66, hq⟩ := hq
  obtain ⟨h67, e68⟩ : ∃ y, y = tI h62 (fR h62 x0 2315) (Int32.toNatClampNeg 0) 0 := ⟨_, rfl⟩
  replace hq := hq h67 e68
  refine x_iast' g65 i66 dX9_begin_98 e68 ?_
  refine x_aload_n 0 dX9_begin_99 rfl ?_
  have t69 : tg h67 x0 = 10 := by rw [e68]; exact t64
  refine x_get (v := rv (fR h67 x0 2317)) fdX9_57 dX9_begin_100 t69 rfl ?_
  refine x_iconst (v := 0) dX9_begin_103 (by decide) ?_
  refine x_aload_n 1 dX9_begin_104 rfl ?_
  obtain ⟨g70, hq⟩ := hq
  have t71 : tg h33 x1 = 17 := by rw [e34]; exact t31
  have t72 : tg h36 x1 = 17 := by rw [e37]; exact t71
  have t73 : tg h39 x1 = 17 := by rw [e40]; exact t72
  have t74 : tg h42 x1 = 17 := by rw [e43]; exact t73
  have t75 : tg h45 x1 = 17 := by rw [e46]; exact t74
  have t76 : tg h51 x1 = 17 := e53.tg t75 (by decide)
  have t77 : tg h57 x1 = 17 := by rw [e58]; exact t76
  have t78 : tg h62 x1 = 17 := by rw [e63]; exact t77
  have t79 : tg h67 x1 = 17 := by rw [e68]; exact t78
  obtain ⟨i80, hq⟩ := hq
  obtain ⟨h81, e82⟩ : ∃ y, y = tR h67 (fR h67 x0 2317) (Int32.toNatClampNeg 0) x1 := ⟨_, rfl⟩
  replace hq := hq h81 e82
  refine x_aast 7 16 as_7_16 g70 (Or.inl (by rw [g70]; rfl)) t79 i80 dX9_begin_105 e82 ?_
  refine x_aload_n 0 dX9_begin_106 rfl ?_
  refine x_aload_n 1 dX9_begin_107 rfl ?_
  have t83 : tg h81 x1 = 17 := by rw [e82]; exact t79
  refine x_getN (v := .int (fI h81 x1 4103)) gfX9_126 dX9_begin_108 t83 rfl ?_
  have t84 : tg h81 x0 = 10 := by rw [e82]; exact t69
  obtain ⟨h85, e86⟩ : ∃ y, y = sI h81 x0 2311 (fI h81 x1 4103) := ⟨_, rfl⟩
  replace hq := hq h85 e86
  refine x_putI fdX9_129 xty_I1 dX9_begin_111 t84 (Or.inl (by rw [t84]; rfl)) xnI rfl e86 ?_
  refine x_iconst (v := 0) dX9_begin_114 (by decide) ?_
  refine x_istore_n (lv' := [(3, .int 0), (0, rv x0), (1, rv x1), (2, .int x2)]) dX9_begin_115 (by decide) rfl ?_
  refine xP.pick (lv' := [(0, rv x0), (1, rv x1), (3, .int 0)]) [1, 2, 0] rfl ?_
  exact hq
theorem rX9_begin {G : xG} {fr lo : Nat} {x0 : Nat} {x1 : Nat} {x2 : Int32} {h : xH} {Q : Outcome → xH → Prop} (hq : bX9_begin G fr lo x0 x1 x2 h Q) : xR G YX9_begin fr lo [rv x0, rv x1, .int x2] h Q := by
  show xP _ _ _ _ _ (lv_args 0 _) _ _ _
  rw [show lv_args 0 [rv x0, rv x1, .int x2] = [(0, rv x0), (1, rv x1), (2, .int x2)] from (xla1 (rv_cat _) (xla1 (rv_cat _) (xla1 rfl xla0)))]
  exact uX9_begin hq
set_option maxRecDepth 100000 in
theorem dX9_fail_0 : decode cX9_fail 0 = .ok (.aload_n 0, 1) := by decide +kernel
set_option maxRecDepth 100000 in
theorem dX9_fail_1 : decode cX9_fail 1 = .ok (.getfield 79, 3) := by decide +kernel
set_option maxRecDepth 100000 in
theorem dX9_fail_4 : decode cX9_fail 4 = .ok (.ifCond .le 4, 3) := by decide +kernel
set_option maxRecDepth 100000 in
theorem dX9_fail_7 : decode cX9_fail 7 = .ok (.return_, 1) := by decide +kernel
set_option maxRecDepth 100000 in
theorem dX9_fail_8 : decode cX9_fail 8 = .ok (.aload_n 0, 1) := by decide +kernel
set_option maxRecDepth 100000 in
theorem dX9_fail_9 : decode cX9_fail 9 = .ok (.iload_n 1, 1) := by decide +kernel
set_option maxRecDepth 100000 in
theorem dX9_fail_10 : decode cX9_fail 10 = .ok (.putfield 79, 3) := by decide +kernel
set_option maxRecDepth 100000 in
theorem dX9_fail_13 : decode cX9_fail 13 = .ok (.aload_n 0, 1) := by decide +kernel
set_option maxRecDepth 100000 in
theorem dX9_fail_14 : decode cX9_fail 14 = .ok (.iload_n 2, 1) := by decide +kernel
set_option maxRecDepth 100000 in
theorem dX9_fail_15 : decode cX9_fail 15 = .ok (.putfield 83, 3) := by decide +kernel
set_option maxRecDepth 100000 in
theorem dX9_fail_18 : decode cX9_fail 18 = .ok (.return_, 1) := by decide +kernel
set_option maxRecDepth 100000 in
def bX9_fail (G : xG) (fr lo : Nat) (x0 : Nat) (x1 : Int32) (x2 : Int32) (h : xH) (Q : Outcome → xH → Prop) : Prop := tg h x0 = 10 ∧ (((fI h x0 2326) ≤ 0 → (∀ h3 : xH, h3 = sI h x0 2326 x1 → (∀ h6 : xH, h6 = sI h3 x0 2327 x2 → Q (.returned none) h6))) ∧ (¬ (fI h x0 2326) ≤ 0 → Q (.returned none) h))
set_option maxRecDepth 100000 in
theorem uX9_fail {G : xG} {fr lo : Nat} {x0 : Nat} {x1 : Int32} {x2 : Int32} {h : xH} {Q : Outcome → xH → Prop} (hq : bX9_fail G fr lo x0 x1 x2 h Q) : xP G YX9_fail fr lo 0 [(0, rv x0), (1, .int x1), (2, .int x2)] [] h Q := by
  unfold bX9_fail at hq
  refine x_aload_n 0 dX9_fail_0 rfl ?_
  obtain ⟨g1, hq⟩ := hq
  refine x_get (v := .int (fI h x0 2326)) fdX9_79 dX9_fail_1 g1 rfl ?_
  refine x_if_le (tgt := 8) dX9_fail_4 (by decide) (fun c2 => ?_) (fun c2 => ?_)
  · replace hq := hq.1 c2
    refine x_aload_n 0 dX9_fail_8 rfl ?_
    refine x_iload_n 1 dX9_fail_9 rfl ?_
    obtain ⟨h3, e4⟩ : ∃ y, y = sI h x0 2326 x1 := ⟨_, rfl⟩
    replace hq := hq h3 e4
    refine x_putI fdX9_79 xty_I1 dX9_fail_10 g1 (Or.inl (by rw [g1]; rfl)) xnI rfl e4 ?_
    refine x_aload_n 0 dX9_fail_13 rfl ?_
    refine x_iload_n 2 dX9_fail_14 rfl ?_
    have t5 : tg h3 x0 = 10 := by rw [e4]; exact g1
    obtain ⟨h6, e7⟩ : ∃ y, y = sI h3 x0 2327 x2 := ⟨_, rfl⟩
    replace hq := hq h6 e7
    refine x_putI fdX9_83 xty_I1 dX9_fail_15 t5 (Or.inl (by rw [t5]; rfl)) xnI rfl e7 ?_
    exact x_vret rfl dX9_fail_18 hq
  · replace hq := hq.2 c2
    exact x_vret rfl dX9_fail_7 hq
theorem rX9_fail {G : xG} {fr lo : Nat} {x0 : Nat} {x1 : Int32} {x2 : Int32} {h : xH} {Q : Outcome → xH → Prop} (hq : bX9_fail G fr lo x0 x1 x2 h Q) : xR G YX9_fail fr lo [rv x0, .int x1, .int x2] h Q := by
  show xP _ _ _ _ _ (lv_args 0 _) _ _ _
  rw [show lv_args 0 [rv x0, .int x1, .int x2] = [(0, rv x0), (1, .int x1), (2, .int x2)] from (xla1 (rv_cat _) (xla1 rfl (xla1 rfl xla0)))]
  exact uX9_fail hq
set_option maxRecDepth 100000 in
theorem dX9_opens_0 : decode cX9_opens 0 = .ok (.aload_n 0, 1) := by decide +kernel
set_option maxRecDepth 100000 in
theorem dX9_opens_1 : decode cX9_opens 1 = .ok (.getfield 12, 3) := by decide +kernel
set_option maxRecDepth 100000 in
theorem dX9_opens_4 : decode cX9_opens 4 = .ok (.iload_n 2, 1) := by decide +kernel
set_option maxRecDepth 100000 in
theorem dX9_opens_5 : decode cX9_opens 5 = .ok (.iload_n 2, 1) := by decide +kernel
set_option maxRecDepth 100000 in
theorem dX9_opens_6 : decode cX9_opens 6 = .ok (.aload_n 1, 1) := by decide +kernel
set_option maxRecDepth 100000 in
theorem dX9_opens_7 : decode cX9_opens 7 = .ok (.getfield 92, 3) := by decide +kernel
set_option maxRecDepth 100000 in
theorem dX9_opens_10 : decode cX9_opens 10 = .ok (.iadd, 1) := by decide +kernel
set_option maxRecDepth 100000 in
theorem dX9_opens_11 : decode cX9_opens 11 = .ok (.invokevirtual 155, 3) := by decide +kernel
set_option maxRecDepth 100000 in
theorem dX9_opens_14 : decode cX9_opens 14 = .ok (.iconst 0, 1) := by decide +kernel
set_option maxRecDepth 100000 in
theorem dX9_opens_15 : decode cX9_opens 15 = .ok (.istore_n 3, 1) := by decide +kernel
set_option maxRecDepth 100000 in
theorem dX9_opens_16 : decode cX9_opens 16 = .ok (.iload_n 3, 1) := by decide +kernel
set_option maxRecDepth 100000 in
theorem dX9_opens_17 : decode cX9_opens 17 = .ok (.aload_n 1, 1) := by decide +kernel
set_option maxRecDepth 100000 in
theorem dX9_opens_18 : decode cX9_opens 18 = .ok (.getfield 158, 3) := by decide +kernel
set_option maxRecDepth 100000 in
theorem dX9_opens_21 : decode cX9_opens 21 = .ok (.invokevirtual 161, 3) := by decide +kernel
set_option maxRecDepth 100000 in
theorem dX9_opens_24 : decode cX9_opens 24 = .ok (.if_icmp .ge 46, 3) := by decide +kernel
set_option maxRecDepth 100000 in
theorem dX9_opens_27 : decode cX9_opens 27 = .ok (.aload_n 0, 1) := by decide +kernel
set_option maxRecDepth 100000 in
theorem dX9_opens_28 : decode cX9_opens 28 = .ok (.getfield 23, 3) := by decide +kernel
set_option maxRecDepth 100000 in
theorem dX9_opens_31 : decode cX9_opens 31 = .ok (.iload_n 2, 1) := by decide +kernel
set_option maxRecDepth 100000 in
theorem dX9_opens_32 : decode cX9_opens 32 = .ok (.aload_n 1, 1) := by decide +kernel
set_option maxRecDepth 100000 in
theorem dX9_opens_33 : decode cX9_opens 33 = .ok (.getfield 158, 3) := by decide +kernel
set_option maxRecDepth 100000 in
theorem dX9_opens_36 : decode cX9_opens 36 = .ok (.iload_n 3, 1) := by decide +kernel
set_option maxRecDepth 100000 in
theorem dX9_opens_37 : decode cX9_opens 37 = .ok (.invokevirtual 166, 3) := by decide +kernel
set_option maxRecDepth 100000 in
theorem dX9_opens_40 : decode cX9_opens 40 = .ok (.checkcast 170, 3) := by decide +kernel
set_option maxRecDepth 100000 in
theorem dX9_opens_43 : decode cX9_opens 43 = .ok (.getfield 172, 3) := by decide +kernel
set_option maxRecDepth 100000 in
theorem dX9_opens_46 : decode cX9_opens 46 = .ok (.iadd, 1) := by decide +kernel
set_option maxRecDepth 100000 in
theorem dX9_opens_47 : decode cX9_opens 47 = .ok (.aload_n 1, 1) := by decide +kernel
set_option maxRecDepth 100000 in
theorem dX9_opens_48 : decode cX9_opens 48 = .ok (.getfield 158, 3) := by decide +kernel
set_option maxRecDepth 100000 in
theorem dX9_opens_51 : decode cX9_opens 51 = .ok (.iload_n 3, 1) := by decide +kernel
set_option maxRecDepth 100000 in
theorem dX9_opens_52 : decode cX9_opens 52 = .ok (.invokevirtual 166, 3) := by decide +kernel
set_option maxRecDepth 100000 in
theorem dX9_opens_55 : decode cX9_opens 55 = .ok (.checkcast 170, 3) := by decide +kernel
set_option maxRecDepth 100000 in
theorem dX9_opens_58 : decode cX9_opens 58 = .ok (.getfield 175, 3) := by decide +kernel
set_option maxRecDepth 100000 in
theorem dX9_opens_61 : decode cX9_opens 61 = .ok (.invokevirtual 179, 3) := by decide +kernel
set_option maxRecDepth 100000 in
theorem dX9_opens_64 : decode cX9_opens 64 = .ok (.iinc 3 1, 3) := by decide +kernel
set_option maxRecDepth 100000 in
theorem dX9_opens_67 : decode cX9_opens 67 = .ok (.goto (-51), 3) := by decide +kernel
set_option maxRecDepth 100000 in
theorem dX9_opens_70 : decode cX9_opens 70 = .ok (.return_, 1) := by decide +kernel
def lX9_opens_16 (G : xG) (fr lo : Nat) (x0 : Nat) (x1 : Nat) (x2 : Int32) (x3 : Int32) (h : xH) (Q : Outcome → xH → Prop) : Prop := xP G YX9_opens fr lo 16 [(0, rv x0), (1, rv x1), (2, .int x2), (3, .int x3)] [] h Q
set_option maxRecDepth 100000 in
def bX9_opens_16 (G : xG) (fr lo : Nat) (x0 : Nat) (x1 : Nat) (x2 : Int32) (x3 : Int32) (h : xH) (Q : Outcome → xH → Prop) : Prop := tg h x1 = 17 ∧ tg h (fR h x1 4111) = 29 ∧ 1 ≤ fr ∧ 13 ≤ lo ∧ xRi G YJ2_size (fr - 1) (lo - 13) [rv (fR h x1 4111)] h (fun x6 h5 => xext h h5 → ((x6 ≤ x3 → Q (.returned none) h5) ∧ (¬ x6 ≤ x3 → tg h5 x0 = 10 ∧ tg h5 (fR h5 x1 4111) = 29 ∧ 1 ≤ fr ∧ 15 ≤ lo ∧ xRr G YJ2_get (fr - 1) (lo - 15) [rv (fR h5 x1 4111), .int x3] h5 (fun x15 h14 => xext h5 h14 → tg h14 x15 = 9 ∧ tg h14 (fR h14 x1 4111) = 29 ∧ 1 ≤ fr ∧ 15 ≤ lo ∧ xRr G YJ2_get (fr - 1) (lo - 15) [rv (fR h14 x1 4111), .int x3] h14 (fun x23 h22 => xext h14 h22 → tg h22 x23 = 9 ∧ tg h22 (fR h5 x0 2306) = 12 ∧ 1 ≤ fr ∧ 14 ≤ lo ∧ xRv G YX11_open (fr - 1) (lo - 14) [rv (fR h5 x0 2306), .int (x2 + (fI h14 x15 2053)), rv (fR h22 x23 2050)] h22 (fun h29 => xext h22 h29 → lX9_opens_16 G fr lo x0 x1 x2 (x3 + 1) h29 Q) (fun r h2 => Q (.threw r) h2)) (fun r h2 => Q (.threw r) h2)) (fun r h2 => Q (.threw r) h2)))) (fun r h2 => Q (.threw r) h2)
set_option maxRecDepth 100000 in
theorem uX9_opens_16 {G : xG} {fr lo : Nat} {x0 : Nat} {x1 : Nat} {x2 : Int32} {x3 : Int32} {h : xH} {Q : Outcome → xH → Prop} (hq : bX9_opens_16 G fr lo x0 x1 x2 x3 h Q) : xP G YX9_opens fr lo 16 [(0, rv x0), (1, rv x1), (2, .int x2), (3, .int x3)] [] h Q := by
  unfold bX9_opens_16 at hq
  refine x_iload_n 3 dX9_opens_16 rfl ?_
  refine x_aload_n 1 dX9_opens_17 rfl ?_
  obtain ⟨g1, hq⟩ := hq
  refine x_getN (v := rv (fR h x1 4111)) gfX9_158 dX9_opens_18 g1 rfl ?_
  obtain ⟨g2, hq⟩ := hq
  obtain ⟨g3, g4, hq⟩ := hq
  refine x_callV (Yc := YJ2_size) (as := []) (st := [.int x3]) q2847 mvJ2_size g2 rfl dX9_opens_21 (xle (xal1 (rv_cat _) xal0) (by decide)) (xfr g3) (xlo (xsw1 rfl xsw0) (by decide) g4) (xKi hq (fun x6 h5 hq e7 => ?_) (fun _ _ q _ => q))
  replace hq := hq e7
  refine x_icmp_ge (tgt := 70) dX9_opens_24 (by decide) (fun c8 => ?_) (fun c8 => ?_)
  · replace hq := hq.1 c8
    exact x_vret rfl dX9_opens_70 hq
  · replace hq := hq.2 c8
    refine x_aload_n 0 dX9_opens_27 rfl ?_
    obtain ⟨g9, hq⟩ := hq
    refine x_get (v := rv (fR h5 x0 2306)) fdX9_23 dX9_opens_28 g9 rfl ?_
    refine x_iload_n 2 dX9_opens_31 rfl ?_
    refine x_aload_n 1 dX9_opens_32 rfl ?_
    have t10 : tg h5 x1 = 17 := e7.tg g1 (by decide)
    refine x_getN (v := rv (fR h5 x1 4111)) gfX9_158 dX9_opens_33 t10 rfl ?_
    refine x_iload_n 3 dX9_opens_36 rfl ?_
    obtain ⟨g11, hq⟩ := hq
    obtain ⟨g12, g13, hq⟩ := hq
    refine x_callV (Yc := YJ2_get) (as := [.int x3]) (st := [.int x2, rv (fR h5 x0 2306)]) q2848 mvJ2_get g11 rfl dX9_opens_37 (xle (xal1 (rv_cat _) (xal1 rfl xal0)) (by decide)) (xfr g12) (xlo (xsw1 rfl (xsw1 (rv_cat _) xsw0)) (by decide) g13) (xKr hq (fun x15 h14 hq e16 => ?_) (fun _ _ q _ => q))
    replace hq := hq e16
    obtain ⟨g17, hq⟩ := hq
    refine x_cast (ci := 8) (by decide) rfl q2849 g17 dX9_opens_40 ?_
    refine x_getN (v := .int (fI h14 x15 2053)) gfX9_172 dX9_opens_43 g17 rfl ?_
    refine x_iadd dX9_opens_46 ?_
    refine x_aload_n 1 dX9_opens_47 rfl ?_
    have t18 : tg h14 x1 = 17 := e16.tg t10 (by decide)
    refine x_getN (v := rv (fR h14 x1 4111)) gfX9_158 dX9_opens_48 t18 rfl ?_
    refine x_iload_n 3 dX9_opens_51 rfl ?_
    obtain ⟨g19, hq⟩ := hq
    obtain ⟨g20, g21, hq⟩ := hq
    refine x_callV (Yc := YJ2_get) (as := [.int x3]) (st := [.int (x2 + (fI h14 x15 2053)), rv (fR h5 x0 2306)]) q2848 mvJ2_get g19 rfl dX9_opens_52 (xle (xal1 (rv_cat _) (xal1 rfl xal0)) (by decide)) (xfr g20) (xlo (xsw1 rfl (xsw1 (rv_cat _) xsw0)) (by decide) g21) (xKr hq (fun x23 h22 hq e24 => ?_) (fun _ _ q _ => q))
    replace hq := hq e24
    obtain ⟨g25, hq⟩ := hq
    refine x_cast (ci := 8) (by decide) rfl q2849 g25 dX9_opens_55 ?_
    refine x_getN (v := rv (fR h22 x23 2050)) gfX9_175 dX9_opens_58 g25 rfl ?_
    obtain ⟨g26, hq⟩ := hq
    obtain ⟨g27, g28, hq⟩ := hq
    refine x_callV (Yc := YX11_open) (as := [.int (x2 + (fI h14 x15 2053)), rv (fR h22 x23 2050)]) (st := []) q2850 mvX11_open g26 rfl dX9_opens_61 (xle (xal1 (rv_cat _) (xal1 rfl (xal1 (rv_cat _) xal0))) (by decide)) (xfr g27) (xlo xsw0 (by decide) g28) (xKv hq (fun h29 hq e31 => ?_) (fun _ _ q _ => q))
    replace hq := hq e31
    refine x_iinc (lv' := [(3, .int (x3 + 1)), (0, rv x0), (1, rv x1), (2, .int x2)]) 3 dX9_opens_64 rfl (by decide) rfl ?_
    refine x_goto (tgt := 16) dX9_opens_67 (by decide) ?_
    refine xP.pick (lv' := [(0, rv x0), (1, rv x1), (2, .int x2), (3, .int (x3 + 1))]) [1, 2, 3, 0] rfl ?_
    exact hq
set_option maxRecDepth 100000 in
def bX9_opens (G : xG) (fr lo : Nat) (x0 : Nat) (x1 : Nat) (x2 : Int32) (h : xH) (Q : Outcome → xH → Prop) : Prop := tg h x0 = 10 ∧ tg h x1 = 17 ∧ tg h (fR h x0 2305) = 11 ∧ 1 ≤ fr ∧ 15 ≤ lo ∧ xRv G YX10_forget (fr - 1) (lo - 15) [rv (fR h x0 2305), .int x2, .int (x2 + (fI h x1 4104))] h (fun h6 => xext h h6 → lX9_opens_16 G fr lo x0 x1 x2 0 h6 Q) (fun r h2 => Q (.threw r) h2)
set_option maxRecDepth 100000 in
theorem uX9_opens {G : xG} {fr lo : Nat} {x0 : Nat} {x1 : Nat} {x2 : Int32} {h : xH} {Q : Outcome → xH → Prop} (hq : bX9_opens G fr lo x0 x1 x2 h Q) : xP G YX9_opens fr lo 0 [(0, rv x0), (1, rv x1), (2, .int x2)] [] h Q := by
  unfold bX9_opens at hq
  refine x_aload_n 0 dX9_opens_0 rfl ?_
  obtain ⟨g1, hq⟩ := hq
  refine x_get (v := rv (fR h x0 2305)) fdX9_12 dX9_opens_1 g1 rfl ?_
  refine x_iload_n 2 dX9_opens_4 rfl ?_
  refine x_iload_n 2 dX9_opens_5 rfl ?_
  refine x_aload_n 1 dX9_opens_6 rfl ?_
  obtain ⟨g2, hq⟩ := hq
  refine x_getN (v := .int (fI h x1 4104)) gfX9_92 dX9_opens_7 g2 rfl ?_
  refine x_iadd dX9_opens_10 ?_
  obtain ⟨g3, hq⟩ := hq
  obtain ⟨g4, g5, hq⟩ := hq
  refine x_callV (Yc := YX10_forget) (as := [.int x2, .int (x2 + (fI h x1 4104))]) (st := []) q2843 mvX10_forget g3 rfl dX9_opens_11 (xle (xal1 (rv_cat _) (xal1 rfl (xal1 rfl xal0))) (by decide)) (xfr g4) (xlo xsw0 (by decide) g5) (xKv hq (fun h6 hq e8 => ?_) (fun _ _ q _ => q))
  replace hq := hq e8
  refine x_iconst (v := 0) dX9_opens_14 (by decide) ?_
  refine x_istore_n (lv' := [(3, .int 0), (0, rv x0), (1, rv x1), (2, .int x2)]) dX9_opens_15 (by decide) rfl ?_
  refine xP.pick (lv' := [(0, rv x0), (1, rv x1), (2, .int x2), (3, .int 0)]) [1, 2, 3, 0] rfl ?_
  exact hq
theorem rX9_opens {G : xG} {fr lo : Nat} {x0 : Nat} {x1 : Nat} {x2 : Int32} {h : xH} {Q : Outcome → xH → Prop} (hq : bX9_opens G fr lo x0 x1 x2 h Q) : xR G YX9_opens fr lo [rv x0, rv x1, .int x2] h Q := by
  show xP _ _ _ _ _ (lv_args 0 _) _ _ _
  rw [show lv_args 0 [rv x0, rv x1, .int x2] = [(0, rv x0), (1, rv x1), (2, .int x2)] from (xla1 (rv_cat _) (xla1 (rv_cat _) (xla1 rfl xla0)))]
  exact uX9_opens hq
set_option maxRecDepth 100000 in
theorem dX9_go_0 : decode cX9_go 0 = .ok (.aload_n 0, 1) := by decide +kernel
set_option maxRecDepth 100000 in
theorem dX9_go_1 : decode cX9_go 1 = .ok (.getfield 79, 3) := by decide +kernel
set_option maxRecDepth 100000 in
theorem dX9_go_4 : decode cX9_go 4 = .ok (.ifCond .ne 104, 3) := by decide +kernel
set_option maxRecDepth 100000 in
theorem dX9_go_7 : decode cX9_go 7 = .ok (.aload_n 0, 1) := by decide +kernel
set_option maxRecDepth 100000 in
theorem dX9_go_8 : decode cX9_go 8 = .ok (.getfield 110, 3) := by decide +kernel
set_option maxRecDepth 100000 in
theorem dX9_go_11 : decode cX9_go 11 = .ok (.ifCond .ne 97, 3) := by decide +kernel
set_option maxRecDepth 100000 in
theorem dX9_go_14 : decode cX9_go 14 = .ok (.aload_n 0, 1) := by decide +kernel
set_option maxRecDepth 100000 in
theorem dX9_go_15 : decode cX9_go 15 = .ok (.getfield 129, 3) := by decide +kernel
set_option maxRecDepth 100000 in
theorem dX9_go_18 : decode cX9_go 18 = .ok (.istore_n 1, 1) := by decide +kernel
set_option maxRecDepth 100000 in
theorem dX9_go_19 : decode cX9_go 19 = .ok (.aload_n 0, 1) := by decide +kernel
set_option maxRecDepth 100000 in
theorem dX9_go_20 : decode cX9_go 20 = .ok (.dup, 1) := by decide +kernel
set_option maxRecDepth 100000 in
theorem dX9_go_21 : decode cX9_go 21 = .ok (.getfield 129, 3) := by decide +kernel
set_option maxRecDepth 100000 in
theorem dX9_go_24 : decode cX9_go 24 = .ok (.iconst 1, 1) := by decide +kernel
set_option maxRecDepth 100000 in
theorem dX9_go_25 : decode cX9_go 25 = .ok (.iadd, 1) := by decide +kernel
set_option maxRecDepth 100000 in
theorem dX9_go_26 : decode cX9_go 26 = .ok (.putfield 129, 3) := by decide +kernel
set_option maxRecDepth 100000 in
theorem dX9_go_29 : decode cX9_go 29 = .ok (.aload_n 0, 1) := by decide +kernel
set_option maxRecDepth 100000 in
theorem dX9_go_30 : decode cX9_go 30 = .ok (.getfield 75, 3) := by decide +kernel
set_option maxRecDepth 100000 in
theorem dX9_go_33 : decode cX9_go 33 = .ok (.getfield 183, 3) := by decide +kernel
set_option maxRecDepth 100000 in
theorem dX9_go_36 : decode cX9_go 36 = .ok (.iload_n 1, 1) := by decide +kernel
set_option maxRecDepth 100000 in
theorem dX9_go_37 : decode cX9_go 37 = .ok (.iaload, 1) := by decide +kernel
set_option maxRecDepth 100000 in
theorem dX9_go_38 : decode cX9_go 38 = .ok (.istore_n 2, 1) := by decide +kernel
set_option maxRecDepth 100000 in
theorem dX9_go_39 : decode cX9_go 39 = .ok (.iload_n 2, 1) := by decide +kernel
set_option maxRecDepth 100000 in
theorem dX9_go_40 : decode cX9_go 40 = .ok (.bipush 20, 2) := by decide +kernel
set_option maxRecDepth 100000 in
theorem dX9_go_42 : decode cX9_go 42 = .ok (.if_icmp .ge 12, 3) := by decide +kernel
set_option maxRecDepth 100000 in
theorem dX9_go_45 : decode cX9_go 45 = .ok (.aload_n 0, 1) := by decide +kernel
set_option maxRecDepth 100000 in
theorem dX9_go_46 : decode cX9_go 46 = .ok (.iload_n 2, 1) := by decide +kernel
set_option maxRecDepth 100000 in
theorem dX9_go_47 : decode cX9_go 47 = .ok (.iload_n 1, 1) := by decide +kernel
set_option maxRecDepth 100000 in
theorem dX9_go_48 : decode cX9_go 48 = .ok (.invokevirtual 186, 3) := by decide +kernel
set_option maxRecDepth 100000 in
theorem dX9_go_51 : decode cX9_go 51 = .ok (.goto 54, 3) := by decide +kernel
set_option maxRecDepth 100000 in
theorem dX9_go_54 : decode cX9_go 54 = .ok (.iload_n 2, 1) := by decide +kernel
set_option maxRecDepth 100000 in
theorem dX9_go_55 : decode cX9_go 55 = .ok (.bipush 50, 2) := by decide +kernel
set_option maxRecDepth 100000 in
theorem dX9_go_57 : decode cX9_go 57 = .ok (.if_icmp .ge 12, 3) := by decide +kernel
set_option maxRecDepth 100000 in
theorem dX9_go_60 : decode cX9_go 60 = .ok (.aload_n 0, 1) := by decide +kernel
set_option maxRecDepth 100000 in
theorem dX9_go_61 : decode cX9_go 61 = .ok (.iload_n 2, 1) := by decide +kernel
set_option maxRecDepth 100000 in
theorem dX9_go_62 : decode cX9_go 62 = .ok (.iload_n 1, 1) := by decide +kernel
set_option maxRecDepth 100000 in
theorem dX9_go_63 : decode cX9_go 63 = .ok (.invokevirtual 189, 3) := by decide +kernel
set_option maxRecDepth 100000 in
theorem dX9_go_66 : decode cX9_go 66 = .ok (.goto 39, 3) := by decide +kernel
set_option maxRecDepth 100000 in
theorem dX9_go_69 : decode cX9_go 69 = .ok (.iload_n 2, 1) := by decide +kernel
set_option maxRecDepth 100000 in
theorem dX9_go_70 : decode cX9_go 70 = .ok (.bipush 66, 2) := by decide +kernel
set_option maxRecDepth 100000 in
theorem dX9_go_72 : decode cX9_go 72 = .ok (.if_icmp .gt 12, 3) := by decide +kernel
set_option maxRecDepth 100000 in
theorem dX9_go_75 : decode cX9_go 75 = .ok (.aload_n 0, 1) := by decide +kernel
set_option maxRecDepth 100000 in
theorem dX9_go_76 : decode cX9_go 76 = .ok (.iload_n 2, 1) := by decide +kernel
set_option maxRecDepth 100000 in
theorem dX9_go_77 : decode cX9_go 77 = .ok (.iload_n 1, 1) := by decide +kernel
set_option maxRecDepth 100000 in
theorem dX9_go_78 : decode cX9_go 78 = .ok (.invokevirtual 192, 3) := by decide +kernel
set_option maxRecDepth 100000 in
theorem dX9_go_81 : decode cX9_go 81 = .ok (.goto 24, 3) := by decide +kernel
set_option maxRecDepth 100000 in
theorem dX9_go_84 : decode cX9_go 84 = .ok (.iload_n 2, 1) := by decide +kernel
set_option maxRecDepth 100000 in
theorem dX9_go_85 : decode cX9_go 85 = .ok (.bipush 80, 2) := by decide +kernel
set_option maxRecDepth 100000 in
theorem dX9_go_87 : decode cX9_go 87 = .ok (.if_icmp .ge 12, 3) := by decide +kernel
set_option maxRecDepth 100000 in
theorem dX9_go_90 : decode cX9_go 90 = .ok (.aload_n 0, 1) := by decide +kernel
set_option maxRecDepth 100000 in
theorem dX9_go_91 : decode cX9_go 91 = .ok (.iload_n 2, 1) := by decide +kernel
set_option maxRecDepth 100000 in
theorem dX9_go_92 : decode cX9_go 92 = .ok (.iload_n 1, 1) := by decide +kernel
set_option maxRecDepth 100000 in
theorem dX9_go_93 : decode cX9_go 93 = .ok (.invokevirtual 195, 3) := by decide +kernel
set_option maxRecDepth 100000 in
theorem dX9_go_96 : decode cX9_go 96 = .ok (.goto 9, 3) := by decide +kernel
set_option maxRecDepth 100000 in
theorem dX9_go_99 : decode cX9_go 99 = .ok (.aload_n 0, 1) := by decide +kernel
set_option maxRecDepth 100000 in
theorem dX9_go_100 : decode cX9_go 100 = .ok (.iload_n 2, 1) := by decide +kernel
set_option maxRecDepth 100000 in
theorem dX9_go_101 : decode cX9_go 101 = .ok (.iload_n 1, 1) := by decide +kernel
set_option maxRecDepth 100000 in
theorem dX9_go_102 : decode cX9_go 102 = .ok (.invokevirtual 198, 3) := by decide +kernel
set_option maxRecDepth 100000 in
theorem dX9_go_105 : decode cX9_go 105 = .ok (.goto (-105), 3) := by decide +kernel
set_option maxRecDepth 100000 in
theorem dX9_go_108 : decode cX9_go 108 = .ok (.return_, 1) := by decide +kernel
def lX9_go_0 (G : xG) (fr lo : Nat) (x0 : Nat) (h : xH) (Q : Outcome → xH → Prop) : Prop := xP G YX9_go fr lo 0 [(0, rv x0)] [] h Q
set_option maxRecDepth 100000 in
def bX9_go_108 (G : xG) (fr lo : Nat) (h : xH) (Q : Outcome → xH → Prop) : Prop := Q (.returned none) h
set_option maxRecDepth 100000 in
theorem uX9_go_108 {G : xG} {fr lo : Nat} {h : xH} {Q : Outcome → xH → Prop} (hq : bX9_go_108 G fr lo h Q) : xP G YX9_go fr lo 108 [] [] h Q := by
  unfold bX9_go_108 at hq
  exact x_vret rfl dX9_go_108 hq
set_option maxRecDepth 100000 in
def bX9_go_105 (G : xG) (fr lo : Nat) (x0 : Nat) (h : xH) (Q : Outcome → xH → Prop) : Prop := lX9_go_0 G fr lo x0 h Q
set_option maxRecDepth 100000 in
theorem uX9_go_105 {G : xG} {fr lo : Nat} {x0 : Nat} {h : xH} {Q : Outcome → xH → Prop} (hq : bX9_go_105 G fr lo x0 h Q) : xP G YX9_go fr lo 105 [(0, rv x0)] [] h Q := by
  unfold bX9_go_105 at hq
  refine x_goto (tgt := 0) dX9_go_105 (by decide) ?_
  exact hq
set_option maxRecDepth 100000 in
def bX9_go_0 (G : xG) (fr lo : Nat) (x0 : Nat) (h : xH) (Q : Outcome → xH → Prop) : Prop := tg h x0 = 10 ∧ ((¬ (fI h x0 2326) = 0 → bX9_go_108 G fr lo h Q) ∧ ((fI h x0 2326) = 0 → ((¬ (fI h x0 2332) = 0 → bX9_go_108 G fr lo h Q) ∧ ((fI h x0 2332) = 0 → (∀ h4 : xH, h4 = sI h x0 2311 ((fI h x0 2311) + 1) → tg h4 (fR h4 x0 2304) = 3 ∧ tg h4 (fR h4 (fR h4 x0 2304) 512) = 100 ∧ vp_in (fI h x0 2311) (ln h4 (fR h4 (fR h4 x0 2304) 512)) ∧ ((20 ≤ (aI h4 (fR h4 (fR h4 x0 2304) 512) (Int32.toNatClampNeg (fI h x0 2311))) → ((50 ≤ (aI h4 (fR h4 (fR h4 x0 2304) 512) (Int32.toNatClampNeg (fI h x0 2311))) → ((66 < (aI h4 (fR h4 (fR h4 x0 2304) 512) (Int32.toNatClampNeg (fI h x0 2311))) → ((80 ≤ (aI h4 (fR h4 (fR h4 x0 2304) 512) (Int32.toNatClampNeg (fI h x0 2311))) → 1 ≤ fr ∧ 17 ≤ lo ∧ xRv G YX9_library (fr - 1) (lo - 17) [rv x0, .int (aI h4 (fR h4 (fR h4 x0 2304) 512) (Int32.toNatClampNeg (fI h x0 2311))), .int (fI h x0 2311)] h4 (fun h16 => xext h4 h16 → bX9_go_105 G fr lo x0 h16 Q) (fun r h2 => Q (.threw r) h2)) ∧ (¬ 80 ≤ (aI h4 (fR h4 (fR h4 x0 2304) 512) (Int32.toNatClampNeg (fI h x0 2311))) → 1 ≤ fr ∧ 19 ≤ lo ∧ xRv G YX9_counts (fr - 1) (lo - 19) [rv x0, .int (aI h4 (fR h4 (fR h4 x0 2304) 512) (Int32.toNatClampNeg (fI h x0 2311))), .int (fI h x0 2311)] h4 (fun h21 => xext h4 h21 → bX9_go_105 G fr lo x0 h21 Q) (fun r h2 => Q (.threw r) h2)))) ∧ (¬ 66 < (aI h4 (fR h4 (fR h4 x0 2304) 512) (Int32.toNatClampNeg (fI h x0 2311))) → 1 ≤ fr ∧ 19 ≤ lo ∧ xRv G YX9_controls (fr - 1) (lo - 19) [rv x0, .int (aI h4 (fR h4 (fR h4 x0 2304) 512) (Int32.toNatClampNeg (fI h x0 2311))), .int (fI h x0 2311)] h4 (fun h26 => xext h4 h26 → bX9_go_105 G fr lo x0 h26 Q) (fun r h2 => Q (.threw r) h2)))) ∧ (¬ 50 ≤ (aI h4 (fR h4 (fR h4 x0 2304) 512) (Int32.toNatClampNeg (fI h x0 2311))) → 1 ≤ fr ∧ 15 ≤ lo ∧ xRv G YX9_works (fr - 1) (lo - 15) [rv x0, .int (aI h4 (fR h4 (fR h4 x0 2304) 512) (Int32.toNatClampNeg (fI h x0 2311))), .int (fI h x0 2311)] h4 (fun h31 => xext h4 h31 → bX9_go_105 G fr lo x0 h31 Q) (fun r h2 => Q (.threw r) h2)))) ∧ (¬ 20 ≤ (aI h4 (fR h4 (fR h4 x0 2304) 512) (Int32.toNatClampNeg (fI h x0 2311))) → 1 ≤ fr ∧ 17 ≤ lo ∧ xRv G YX9_data (fr - 1) (lo - 17) [rv x0, .int (aI h4 (fR h4 (fR h4 x0 2304) 512) (Int32.toNatClampNeg (fI h x0 2311))), .int (fI h x0 2311)] h4 (fun h36 => xext h4 h36 → bX9_go_105 G fr lo x0 h36 Q) (fun r h2 => Q (.threw r) h2))))))))
set_option maxRecDepth 100000 in
theorem uX9_go_0 {G : xG} {fr lo : Nat} {x0 : Nat} {h : xH} {Q : Outcome → xH → Prop} (hq : bX9_go_0 G fr lo x0 h Q) : xP G YX9_go fr lo 0 [(0, rv x0)] [] h Q := by
  unfold bX9_go_0 at hq
  refine x_aload_n 0 dX9_go_0 rfl ?_
  obtain ⟨g1, hq⟩ := hq
  refine x_get (v := .int (fI h x0 2326)) fdX9_79 dX9_go_1 g1 rfl ?_
  refine x_if_ne (tgt := 108) dX9_go_4 (by decide) (fun c2 => ?_) (fun c2 => ?_)
  · replace hq := hq.1 c2
    refine xP.pick (lv' := []) [] rfl ?_
    exact uX9_go_108 hq
  · replace hq := hq.2 c2
    refine x_aload_n 0 dX9_go_7 rfl ?_
    refine x_get (v := .int (fI h x0 2332)) fdX9_110 dX9_go_8 g1 rfl ?_
    refine x_if_ne (tgt := 108) dX9_go_11 (by decide) (fun c3 => ?_) (fun c3 => ?_)
    · replace hq := hq.1 c3
      refine xP.pick (lv' := []) [] rfl ?_
      exact uX9_go_108 hq
    · replace hq := hq.2 c3
      refine x_aload_n 0 dX9_go_14 rfl ?_
      refine x_get (v := .int (fI h x0 2311)) fdX9_129 dX9_go_15 g1 rfl ?_
      refine x_istore_n (lv' := [(1, .int (fI h x0 2311)), (0, rv x0)]) dX9_go_18 (by decide) (by first | rfl | (simp [rv_cat, Value.category]; done) | (simp [rv_cat, Value.category]; decide)) ?_
      refine x_aload_n 1 dX9_go_19 rfl ?_
      refine x_dup dX9_go_20 (rv_cat _) ?_
      refine x_get (v := .int (fI h x0 2311)) fdX9_129 dX9_go_21 g1 rfl ?_
      refine x_iconst (v := 1) dX9_go_24 (by decide) ?_
      refine x_iadd dX9_go_25 ?_
      obtain ⟨h4, e5⟩ : ∃ y, y = sI h x0 2311 ((fI h x0 2311) + 1) := ⟨_, rfl⟩
      replace hq := hq h4 e5
      refine x_putI fdX9_129 xty_I1 dX9_go_26 g1 (Or.inl (by rw [g1]; rfl)) xnI rfl e5 ?_
      refine x_aload_n 1 dX9_go_29 rfl ?_
      have t6 : tg h4 x0 = 10 := by rw [e5]; exact g1
      refine x_get (v := rv (fR h4 x0 2304)) fdX9_75 dX9_go_30 t6 rfl ?_
      obtain ⟨g7, hq⟩ := hq
      refine x_getN (v := rv (fR h4 (fR h4 x0 2304) 512)) gfX9_183 dX9_go_33 g7 rfl ?_
      refine x_iload_n 0 dX9_go_36 rfl ?_
      obtain ⟨g8, hq⟩ := hq
      obtain ⟨i9, hq⟩ := hq
      refine x_iald 0 (Or.inl rfl) g8 i9 dX9_go_37 ?_
      refine x_istore_n (lv' := [(2, .int (aI h4 (fR h4 (fR h4 x0 2304) 512) (Int32.toNatClampNeg (fI h x0 2311)))), (1, .int (fI h x0 2311)), (0, rv x0)]) dX9_go_38 (by decide) rfl ?_
      refine x_iload_n 0 dX9_go_39 rfl ?_
      refine x_bipush (v := 20) dX9_go_40 (by decide) ?_
      refine x_icmp_ge (tgt := 54) dX9_go_42 (by decide) (fun c10 => ?_) (fun c10 => ?_)
      · replace hq := hq.1 c10
        refine x_iload_n 0 dX9_go_54 rfl ?_
        refine x_bipush (v := 50) dX9_go_55 (by decide) ?_
        refine x_icmp_ge (tgt := 69) dX9_go_57 (by decide) (fun c11 => ?_) (fun c11 => ?_)
        · replace hq := hq.1 c11
          refine x_iload_n 0 dX9_go_69 rfl ?_
          refine x_bipush (v := 66) dX9_go_70 (by decide) ?_
          refine x_icmp_gt (tgt := 84) dX9_go_72 (by decide) (fun c12 => ?_) (fun c12 => ?_)
          · replace hq := hq.1 c12
            refine x_iload_n 0 dX9_go_84 rfl ?_
            refine x_bipush (v := 80) dX9_go_85 (by decide) ?_
            refine x_icmp_ge (tgt := 99) dX9_go_87 (by decide) (fun c13 => ?_) (fun c13 => ?_)
            · replace hq := hq.1 c13
              refine x_aload_n 2 dX9_go_99 rfl ?_
              refine x_iload_n 0 dX9_go_100 rfl ?_
              refine x_iload_n 1 dX9_go_101 rfl ?_
              obtain ⟨g14, g15, hq⟩ := hq
              refine x_callV (Yc := YX9_library) (as := [.int (aI h4 (fR h4 (fR h4 x0 2304) 512) (Int32.toNatClampNeg (fI h x0 2311))), .int (fI h x0 2311)]) (st := []) q3076 mvX9_library t6 rfl dX9_go_102 (xle (xal1 (rv_cat _) (xal1 rfl (xal1 rfl xal0))) (by decide)) (xfr g14) (xlo xsw0 (by decide) g15) (xKv hq (fun h16 hq e18 => ?_) (fun _ _ q _ => q))
              replace hq := hq e18
              refine xP.pick (lv' := [(0, rv x0)]) [2] rfl ?_
              exact uX9_go_105 hq
            · replace hq := hq.2 c13
              refine x_aload_n 2 dX9_go_90 rfl ?_
              refine x_iload_n 0 dX9_go_91 rfl ?_
              refine x_iload_n 1 dX9_go_92 rfl ?_
              obtain ⟨g19, g20, hq⟩ := hq
              refine x_callV (Yc := YX9_counts) (as := [.int (aI h4 (fR h4 (fR h4 x0 2304) 512) (Int32.toNatClampNeg (fI h x0 2311))), .int (fI h x0 2311)]) (st := []) q3026 mvX9_counts t6 rfl dX9_go_93 (xle (xal1 (rv_cat _) (xal1 rfl (xal1 rfl xal0))) (by decide)) (xfr g19) (xlo xsw0 (by decide) g20) (xKv hq (fun h21 hq e23 => ?_) (fun _ _ q _ => q))
              replace hq := hq e23
              refine x_goto (tgt := 105) dX9_go_96 (by decide) ?_
              refine xP.pick (lv' := [(0, rv x0)]) [2] rfl ?_
              exact uX9_go_105 hq
          · replace hq := hq.2 c12
            refine x_aload_n 2 dX9_go_75 rfl ?_
            refine x_iload_n 0 dX9_go_76 rfl ?_
            refine x_iload_n 1 dX9_go_77 rfl ?_
            obtain ⟨g24, g25, hq⟩ := hq
            refine x_callV (Yc := YX9_controls) (as := [.int (aI h4 (fR h4 (fR h4 x0 2304) 512) (Int32.toNatClampNeg (fI h x0 2311))), .int (fI h x0 2311)]) (st := []) q2983 mvX9_controls t6 rfl dX9_go_78 (xle (xal1 (rv_cat _) (xal1 rfl (xal1 rfl xal0))) (by decide)) (xfr g24) (xlo xsw0 (by decide) g25) (xKv hq (fun h26 hq e28 => ?_) (fun _ _ q _ => q))
            replace hq := hq e28
            refine x_goto (tgt := 105) dX9_go_81 (by decide) ?_
            refine xP.pick (lv' := [(0, rv x0)]) [2] rfl ?_
            exact uX9_go_105 hq
        · replace hq := hq.2 c11
          refine x_aload_n 2 dX9_go_60 rfl ?_
          refine x_iload_n 0 dX9_go_61 rfl ?_
          refine x_iload_n 1 dX9_go_62 rfl ?_
          obtain ⟨g29, g30, hq⟩ := hq
          refine x_callV (Yc := YX9_works) (as := [.int (aI h4 (fR h4 (fR h4 x0 2304) 512) (Int32.toNatClampNeg (fI h x0 2311))), .int (fI h x0 2311)]) (st := []) q2929 mvX9_works t6 rfl dX9_go_63 (xle (xal1 (rv_cat _) (xal1 rfl (xal1 rfl xal0))) (by decide)) (xfr g29) (xlo xsw0 (by decide) g30) (xKv hq (fun h31 hq e33 => ?_) (fun _ _ q _ => q))
          replace hq := hq e33
          refine x_goto (tgt := 105) dX9_go_66 (by decide) ?_
          refine xP.pick (lv' := [(0, rv x0)]) [2] rfl ?_
          exact uX9_go_105 hq
      · replace hq := hq.2 c10
        refine x_aload_n 2 dX9_go_45 rfl ?_
        refine x_iload_n 0 dX9_go_46 rfl ?_
        refine x_iload_n 1 dX9_go_47 rfl ?_
        obtain ⟨g34, g35, hq⟩ := hq
        refine x_callV (Yc := YX9_data) (as := [.int (aI h4 (fR h4 (fR h4 x0 2304) 512) (Int32.toNatClampNeg (fI h x0 2311))), .int (fI h x0 2311)]) (st := []) q2887 mvX9_data t6 rfl dX9_go_48 (xle (xal1 (rv_cat _) (xal1 rfl (xal1 rfl xal0))) (by decide)) (xfr g34) (xlo xsw0 (by decide) g35) (xKv hq (fun h36 hq e38 => ?_) (fun _ _ q _ => q))
        replace hq := hq e38
        refine x_goto (tgt := 105) dX9_go_51 (by decide) ?_
        refine xP.pick (lv' := [(0, rv x0)]) [2] rfl ?_
        exact uX9_go_105 hq
def bX9_go (G : xG) (fr lo : Nat) (x0 : Nat) (h : xH) (Q : Outcome → xH → Prop) : Prop := bX9_go_0 G fr lo x0 h Q
theorem uX9_go {G : xG} {fr lo : Nat} {x0 : Nat} {h : xH} {Q : Outcome → xH → Prop} (hq : bX9_go G fr lo x0 h Q) : xP G YX9_go fr lo 0 [(0, rv x0)] [] h Q :=
  xP.pick (lv' := [(0, rv x0)]) [0] rfl (uX9_go_0 hq)
theorem rX9_go {G : xG} {fr lo : Nat} {x0 : Nat} {h : xH} {Q : Outcome → xH → Prop} (hq : bX9_go G fr lo x0 h Q) : xR G YX9_go fr lo [rv x0] h Q := by
  show xP _ _ _ _ _ (lv_args 0 _) _ _ _
  rw [show lv_args 0 [rv x0] = [(0, rv x0)] from (xla1 (rv_cat _) xla0)]
  exact uX9_go hq
set_option maxRecDepth 100000 in
theorem dX9_data_0 : decode cX9_data 0 = .ok (.aload_n 0, 1) := by decide +kernel
set_option maxRecDepth 100000 in
theorem dX9_data_1 : decode cX9_data 1 = .ok (.getfield 75, 3) := by decide +kernel
set_option maxRecDepth 100000 in
theorem dX9_data_4 : decode cX9_data 4 = .ok (.getfield 201, 3) := by decide +kernel
set_option maxRecDepth 100000 in
theorem dX9_data_7 : decode cX9_data 7 = .ok (.iload_n 2, 1) := by decide +kernel
set_option maxRecDepth 100000 in
theorem dX9_data_8 : decode cX9_data 8 = .ok (.iaload, 1) := by decide +kernel
set_option maxRecDepth 100000 in
theorem dX9_data_9 : decode cX9_data 9 = .ok (.istore_n 3, 1) := by decide +kernel
set_option maxRecDepth 100000 in
theorem dX9_data_10 : decode cX9_data 10 = .ok (.aload_n 0, 1) := by decide +kernel
set_option maxRecDepth 100000 in
theorem dX9_data_11 : decode cX9_data 11 = .ok (.getfield 75, 3) := by decide +kernel
set_option maxRecDepth 100000 in
theorem dX9_data_14 : decode cX9_data 14 = .ok (.getfield 204, 3) := by decide +kernel
set_option maxRecDepth 100000 in
theorem dX9_data_17 : decode cX9_data 17 = .ok (.iload_n 2, 1) := by decide +kernel
set_option maxRecDepth 100000 in
theorem dX9_data_18 : decode cX9_data 18 = .ok (.iaload, 1) := by decide +kernel
set_option maxRecDepth 100000 in
theorem dX9_data_19 : decode cX9_data 19 = .ok (.istore 4, 2) := by decide +kernel
set_option maxRecDepth 100000 in
theorem dX9_data_21 : decode cX9_data 21 = .ok (.iload_n 1, 1) := by decide +kernel
set_option maxRecDepth 100000 in
theorem dX9_data_22 : decode cX9_data 22 = .ok (.tableswitch 356 0 19 #[94, 123, 154, 175, 203, 222, 292, 356, 308, 340, 340, 340, 356, 356, 356, 356, 356, 340, 356, 103], 94) := by decide +kernel
set_option maxRecDepth 100000 in
theorem dX9_data_116 : decode cX9_data 116 = .ok (.aload_n 0, 1) := by decide +kernel
set_option maxRecDepth 100000 in
theorem dX9_data_117 : decode cX9_data 117 = .ok (.iload_n 3, 1) := by decide +kernel
set_option maxRecDepth 100000 in
theorem dX9_data_118 : decode cX9_data 118 = .ok (.i2l, 1) := by decide +kernel
set_option maxRecDepth 100000 in
theorem dX9_data_119 : decode cX9_data 119 = .ok (.invokevirtual 207, 3) := by decide +kernel
set_option maxRecDepth 100000 in
theorem dX9_data_122 : decode cX9_data 122 = .ok (.goto 264, 3) := by decide +kernel
set_option maxRecDepth 100000 in
theorem dX9_data_125 : decode cX9_data 125 = .ok (.aload_n 0, 1) := by decide +kernel
set_option maxRecDepth 100000 in
theorem dX9_data_126 : decode cX9_data 126 = .ok (.lconst 0, 1) := by decide +kernel
set_option maxRecDepth 100000 in
theorem dX9_data_127 : decode cX9_data 127 = .ok (.invokevirtual 207, 3) := by decide +kernel
set_option maxRecDepth 100000 in
theorem dX9_data_130 : decode cX9_data 130 = .ok (.aload_n 0, 1) := by decide +kernel
set_option maxRecDepth 100000 in
theorem dX9_data_131 : decode cX9_data 131 = .ok (.getfield 32, 3) := by decide +kernel
set_option maxRecDepth 100000 in
theorem dX9_data_134 : decode cX9_data 134 = .ok (.aload_n 0, 1) := by decide +kernel
set_option maxRecDepth 100000 in
theorem dX9_data_135 : decode cX9_data 135 = .ok (.getfield 86, 3) := by decide +kernel
set_option maxRecDepth 100000 in
theorem dX9_data_138 : decode cX9_data 138 = .ok (.iconst 1, 1) := by decide +kernel
set_option maxRecDepth 100000 in
theorem dX9_data_139 : decode cX9_data 139 = .ok (.isub, 1) := by decide +kernel
set_option maxRecDepth 100000 in
theorem dX9_data_140 : decode cX9_data 140 = .ok (.lconst 0, 1) := by decide +kernel
set_option maxRecDepth 100000 in
theorem dX9_data_141 : decode cX9_data 141 = .ok (.lastore, 1) := by decide +kernel
set_option maxRecDepth 100000 in
theorem dX9_data_142 : decode cX9_data 142 = .ok (.goto 244, 3) := by decide +kernel
set_option maxRecDepth 100000 in
theorem dX9_data_145 : decode cX9_data 145 = .ok (.aload_n 0, 1) := by decide +kernel
set_option maxRecDepth 100000 in
theorem dX9_data_146 : decode cX9_data 146 = .ok (.getfield 35, 3) := by decide +kernel
set_option maxRecDepth 100000 in
theorem dX9_data_149 : decode cX9_data 149 = .ok (.aload_n 0, 1) := by decide +kernel
set_option maxRecDepth 100000 in
theorem dX9_data_150 : decode cX9_data 150 = .ok (.getfield 86, 3) := by decide +kernel
set_option maxRecDepth 100000 in
theorem dX9_data_153 : decode cX9_data 153 = .ok (.aload_n 0, 1) := by decide +kernel
set_option maxRecDepth 100000 in
theorem dX9_data_154 : decode cX9_data 154 = .ok (.getfield 75, 3) := by decide +kernel
set_option maxRecDepth 100000 in
theorem dX9_data_157 : decode cX9_data 157 = .ok (.getfield 211, 3) := by decide +kernel
set_option maxRecDepth 100000 in
theorem dX9_data_160 : decode cX9_data 160 = .ok (.iload_n 3, 1) := by decide +kernel
set_option maxRecDepth 100000 in
theorem dX9_data_161 : decode cX9_data 161 = .ok (.daload, 1) := by decide +kernel
set_option maxRecDepth 100000 in
theorem dX9_data_162 : decode cX9_data 162 = .ok (.dastore, 1) := by decide +kernel
set_option maxRecDepth 100000 in
theorem dX9_data_163 : decode cX9_data 163 = .ok (.aload_n 0, 1) := by decide +kernel
set_option maxRecDepth 100000 in
theorem dX9_data_164 : decode cX9_data 164 = .ok (.dup, 1) := by decide +kernel
set_option maxRecDepth 100000 in
theorem dX9_data_165 : decode cX9_data 165 = .ok (.getfield 86, 3) := by decide +kernel
set_option maxRecDepth 100000 in
theorem dX9_data_168 : decode cX9_data 168 = .ok (.iconst 1, 1) := by decide +kernel
set_option maxRecDepth 100000 in
theorem dX9_data_169 : decode cX9_data 169 = .ok (.iadd, 1) := by decide +kernel
set_option maxRecDepth 100000 in
theorem dX9_data_170 : decode cX9_data 170 = .ok (.putfield 86, 3) := by decide +kernel
set_option maxRecDepth 100000 in
theorem dX9_data_173 : decode cX9_data 173 = .ok (.goto 213, 3) := by decide +kernel
set_option maxRecDepth 100000 in
theorem dX9_data_176 : decode cX9_data 176 = .ok (.aload_n 0, 1) := by decide +kernel
set_option maxRecDepth 100000 in
theorem dX9_data_177 : decode cX9_data 177 = .ok (.aload_n 0, 1) := by decide +kernel
set_option maxRecDepth 100000 in
theorem dX9_data_178 : decode cX9_data 178 = .ok (.getfield 39, 3) := by decide +kernel
set_option maxRecDepth 100000 in
theorem dX9_data_181 : decode cX9_data 181 = .ok (.aload_n 0, 1) := by decide +kernel
set_option maxRecDepth 100000 in
theorem dX9_data_182 : decode cX9_data 182 = .ok (.iload_n 3, 1) := by decide +kernel
set_option maxRecDepth 100000 in
theorem dX9_data_183 : decode cX9_data 183 = .ok (.invokevirtual 214, 3) := by decide +kernel
set_option maxRecDepth 100000 in
theorem dX9_data_186 : decode cX9_data 186 = .ok (.iaload, 1) := by decide +kernel
set_option maxRecDepth 100000 in
theorem dX9_data_187 : decode cX9_data 187 = .ok (.iload 4, 2) := by decide +kernel
set_option maxRecDepth 100000 in
theorem dX9_data_189 : decode cX9_data 189 = .ok (.iadd, 1) := by decide +kernel
set_option maxRecDepth 100000 in
theorem dX9_data_190 : decode cX9_data 190 = .ok (.i2l, 1) := by decide +kernel
set_option maxRecDepth 100000 in
theorem dX9_data_191 : decode cX9_data 191 = .ok (.invokevirtual 207, 3) := by decide +kernel
set_option maxRecDepth 100000 in
theorem dX9_data_194 : decode cX9_data 194 = .ok (.goto 192, 3) := by decide +kernel
set_option maxRecDepth 100000 in
theorem dX9_data_197 : decode cX9_data 197 = .ok (.aload_n 0, 1) := by decide +kernel
set_option maxRecDepth 100000 in
theorem dX9_data_198 : decode cX9_data 198 = .ok (.aload_n 0, 1) := by decide +kernel
set_option maxRecDepth 100000 in
theorem dX9_data_199 : decode cX9_data 199 = .ok (.getfield 12, 3) := by decide +kernel
set_option maxRecDepth 100000 in
theorem dX9_data_202 : decode cX9_data 202 = .ok (.getfield 218, 3) := by decide +kernel
set_option maxRecDepth 100000 in
theorem dX9_data_205 : decode cX9_data 205 = .ok (.aload_n 0, 1) := by decide +kernel
set_option maxRecDepth 100000 in
theorem dX9_data_206 : decode cX9_data 206 = .ok (.getfield 39, 3) := by decide +kernel
set_option maxRecDepth 100000 in
theorem dX9_data_209 : decode cX9_data 209 = .ok (.aload_n 0, 1) := by decide +kernel
set_option maxRecDepth 100000 in
theorem dX9_data_210 : decode cX9_data 210 = .ok (.iload_n 3, 1) := by decide +kernel
set_option maxRecDepth 100000 in
theorem dX9_data_211 : decode cX9_data 211 = .ok (.invokevirtual 214, 3) := by decide +kernel
set_option maxRecDepth 100000 in
theorem dX9_data_214 : decode cX9_data 214 = .ok (.iaload, 1) := by decide +kernel
set_option maxRecDepth 100000 in
theorem dX9_data_215 : decode cX9_data 215 = .ok (.iload 4, 2) := by decide +kernel
set_option maxRecDepth 100000 in
theorem dX9_data_217 : decode cX9_data 217 = .ok (.iadd, 1) := by decide +kernel
set_option maxRecDepth 100000 in
theorem dX9_data_218 : decode cX9_data 218 = .ok (.laload, 1) := by decide +kernel
set_option maxRecDepth 100000 in
theorem dX9_data_219 : decode cX9_data 219 = .ok (.invokevirtual 207, 3) := by decide +kernel
set_option maxRecDepth 100000 in
theorem dX9_data_222 : decode cX9_data 222 = .ok (.goto 164, 3) := by decide +kernel
set_option maxRecDepth 100000 in
theorem dX9_data_225 : decode cX9_data 225 = .ok (.aload_n 0, 1) := by decide +kernel
set_option maxRecDepth 100000 in
theorem dX9_data_226 : decode cX9_data 226 = .ok (.getfield 28, 3) := by decide +kernel
set_option maxRecDepth 100000 in
theorem dX9_data_229 : decode cX9_data 229 = .ok (.aload_n 0, 1) := by decide +kernel
set_option maxRecDepth 100000 in
theorem dX9_data_230 : decode cX9_data 230 = .ok (.getfield 86, 3) := by decide +kernel
set_option maxRecDepth 100000 in
theorem dX9_data_233 : decode cX9_data 233 = .ok (.iconst 1, 1) := by decide +kernel
set_option maxRecDepth 100000 in
theorem dX9_data_234 : decode cX9_data 234 = .ok (.isub, 1) := by decide +kernel
set_option maxRecDepth 100000 in
theorem dX9_data_235 : decode cX9_data 235 = .ok (.dup2, 1) := by decide +kernel
set_option maxRecDepth 100000 in
theorem dX9_data_236 : decode cX9_data 236 = .ok (.laload, 1) := by decide +kernel
set_option maxRecDepth 100000 in
theorem dX9_data_237 : decode cX9_data 237 = .ok (.iload_n 3, 1) := by decide +kernel
set_option maxRecDepth 100000 in
theorem dX9_data_238 : decode cX9_data 238 = .ok (.i2l, 1) := by decide +kernel
set_option maxRecDepth 100000 in
theorem dX9_data_239 : decode cX9_data 239 = .ok (.ladd, 1) := by decide +kernel
set_option maxRecDepth 100000 in
theorem dX9_data_240 : decode cX9_data 240 = .ok (.lastore, 1) := by decide +kernel
set_option maxRecDepth 100000 in
theorem dX9_data_241 : decode cX9_data 241 = .ok (.goto 145, 3) := by decide +kernel
set_option maxRecDepth 100000 in
theorem dX9_data_244 : decode cX9_data 244 = .ok (.aload_n 0, 1) := by decide +kernel
set_option maxRecDepth 100000 in
theorem dX9_data_245 : decode cX9_data 245 = .ok (.invokevirtual 219, 3) := by decide +kernel
set_option maxRecDepth 100000 in
theorem dX9_data_248 : decode cX9_data 248 = .ok (.istore 5, 2) := by decide +kernel
set_option maxRecDepth 100000 in
theorem dX9_data_250 : decode cX9_data 250 = .ok (.iload 5, 2) := by decide +kernel
set_option maxRecDepth 100000 in
theorem dX9_data_252 : decode cX9_data 252 = .ok (.iload_n 3, 1) := by decide +kernel
set_option maxRecDepth 100000 in
theorem dX9_data_253 : decode cX9_data 253 = .ok (.if_icmp .lt 10, 3) := by decide +kernel
set_option maxRecDepth 100000 in
theorem dX9_data_256 : decode cX9_data 256 = .ok (.iload 5, 2) := by decide +kernel
set_option maxRecDepth 100000 in
theorem dX9_data_258 : decode cX9_data 258 = .ok (.iload 4, 2) := by decide +kernel
set_option maxRecDepth 100000 in
theorem dX9_data_260 : decode cX9_data 260 = .ok (.if_icmp .le 20, 3) := by decide +kernel
set_option maxRecDepth 100000 in
theorem dX9_data_263 : decode cX9_data 263 = .ok (.aload_n 0, 1) := by decide +kernel
set_option maxRecDepth 100000 in
theorem dX9_data_264 : decode cX9_data 264 = .ok (.iconst 2, 1) := by decide +kernel
set_option maxRecDepth 100000 in
theorem dX9_data_265 : decode cX9_data 265 = .ok (.aload_n 0, 1) := by decide +kernel
set_option maxRecDepth 100000 in
theorem dX9_data_266 : decode cX9_data 266 = .ok (.getfield 75, 3) := by decide +kernel
set_option maxRecDepth 100000 in
theorem dX9_data_269 : decode cX9_data 269 = .ok (.getfield 222, 3) := by decide +kernel
set_option maxRecDepth 100000 in
theorem dX9_data_272 : decode cX9_data 272 = .ok (.iload_n 2, 1) := by decide +kernel
set_option maxRecDepth 100000 in
theorem dX9_data_273 : decode cX9_data 273 = .ok (.iaload, 1) := by decide +kernel
set_option maxRecDepth 100000 in
theorem dX9_data_274 : decode cX9_data 274 = .ok (.invokevirtual 147, 3) := by decide +kernel
set_option maxRecDepth 100000 in
theorem dX9_data_277 : decode cX9_data 277 = .ok (.goto 109, 3) := by decide +kernel
set_option maxRecDepth 100000 in
theorem dX9_data_280 : decode cX9_data 280 = .ok (.aload_n 0, 1) := by decide +kernel
set_option maxRecDepth 100000 in
theorem dX9_data_281 : decode cX9_data 281 = .ok (.getfield 28, 3) := by decide +kernel
set_option maxRecDepth 100000 in
theorem dX9_data_284 : decode cX9_data 284 = .ok (.aload_n 0, 1) := by decide +kernel
set_option maxRecDepth 100000 in
theorem dX9_data_285 : decode cX9_data 285 = .ok (.getfield 86, 3) := by decide +kernel
set_option maxRecDepth 100000 in
theorem dX9_data_288 : decode cX9_data 288 = .ok (.iconst 1, 1) := by decide +kernel
set_option maxRecDepth 100000 in
theorem dX9_data_289 : decode cX9_data 289 = .ok (.isub, 1) := by decide +kernel
set_option maxRecDepth 100000 in
theorem dX9_data_290 : decode cX9_data 290 = .ok (.dup2, 1) := by decide +kernel
set_option maxRecDepth 100000 in
theorem dX9_data_291 : decode cX9_data 291 = .ok (.laload, 1) := by decide +kernel
set_option maxRecDepth 100000 in
theorem dX9_data_292 : decode cX9_data 292 = .ok (.iload 5, 2) := by decide +kernel
set_option maxRecDepth 100000 in
theorem dX9_data_294 : decode cX9_data 294 = .ok (.i2l, 1) := by decide +kernel
set_option maxRecDepth 100000 in
theorem dX9_data_295 : decode cX9_data 295 = .ok (.iload_n 3, 1) := by decide +kernel
set_option maxRecDepth 100000 in
theorem dX9_data_296 : decode cX9_data 296 = .ok (.i2l, 1) := by decide +kernel
set_option maxRecDepth 100000 in
theorem dX9_data_297 : decode cX9_data 297 = .ok (.lsub, 1) := by decide +kernel
set_option maxRecDepth 100000 in
theorem dX9_data_298 : decode cX9_data 298 = .ok (.aload_n 0, 1) := by decide +kernel
set_option maxRecDepth 100000 in
theorem dX9_data_299 : decode cX9_data 299 = .ok (.getfield 75, 3) := by decide +kernel
set_option maxRecDepth 100000 in
theorem dX9_data_302 : decode cX9_data 302 = .ok (.getfield 224, 3) := by decide +kernel
set_option maxRecDepth 100000 in
theorem dX9_data_305 : decode cX9_data 305 = .ok (.iload_n 2, 1) := by decide +kernel
set_option maxRecDepth 100000 in
theorem dX9_data_306 : decode cX9_data 306 = .ok (.iaload, 1) := by decide +kernel
set_option maxRecDepth 100000 in
theorem dX9_data_307 : decode cX9_data 307 = .ok (.i2l, 1) := by decide +kernel
set_option maxRecDepth 100000 in
theorem dX9_data_308 : decode cX9_data 308 = .ok (.lmul, 1) := by decide +kernel
set_option maxRecDepth 100000 in
theorem dX9_data_309 : decode cX9_data 309 = .ok (.ladd, 1) := by decide +kernel
set_option maxRecDepth 100000 in
theorem dX9_data_310 : decode cX9_data 310 = .ok (.lastore, 1) := by decide +kernel
set_option maxRecDepth 100000 in
theorem dX9_data_311 : decode cX9_data 311 = .ok (.goto 75, 3) := by decide +kernel
set_option maxRecDepth 100000 in
theorem dX9_data_314 : decode cX9_data 314 = .ok (.aload_n 0, 1) := by decide +kernel
set_option maxRecDepth 100000 in
theorem dX9_data_315 : decode cX9_data 315 = .ok (.aload_n 0, 1) := by decide +kernel
set_option maxRecDepth 100000 in
theorem dX9_data_316 : decode cX9_data 316 = .ok (.getfield 75, 3) := by decide +kernel
set_option maxRecDepth 100000 in
theorem dX9_data_319 : decode cX9_data 319 = .ok (.getfield 222, 3) := by decide +kernel
set_option maxRecDepth 100000 in
theorem dX9_data_322 : decode cX9_data 322 = .ok (.iload_n 2, 1) := by decide +kernel
set_option maxRecDepth 100000 in
theorem dX9_data_323 : decode cX9_data 323 = .ok (.iaload, 1) := by decide +kernel
set_option maxRecDepth 100000 in
theorem dX9_data_324 : decode cX9_data 324 = .ok (.invokevirtual 227, 3) := by decide +kernel
set_option maxRecDepth 100000 in
theorem dX9_data_327 : decode cX9_data 327 = .ok (.goto 59, 3) := by decide +kernel
set_option maxRecDepth 100000 in
theorem dX9_data_330 : decode cX9_data 330 = .ok (.aload_n 0, 1) := by decide +kernel
set_option maxRecDepth 100000 in
theorem dX9_data_331 : decode cX9_data 331 = .ok (.aload_n 0, 1) := by decide +kernel
set_option maxRecDepth 100000 in
theorem dX9_data_332 : decode cX9_data 332 = .ok (.getfield 75, 3) := by decide +kernel
set_option maxRecDepth 100000 in
theorem dX9_data_335 : decode cX9_data 335 = .ok (.getfield 231, 3) := by decide +kernel
set_option maxRecDepth 100000 in
theorem dX9_data_338 : decode cX9_data 338 = .ok (.iload_n 3, 1) := by decide +kernel
set_option maxRecDepth 100000 in
theorem dX9_data_339 : decode cX9_data 339 = .ok (.invokevirtual 166, 3) := by decide +kernel
set_option maxRecDepth 100000 in
theorem dX9_data_342 : decode cX9_data 342 = .ok (.checkcast 234, 3) := by decide +kernel
set_option maxRecDepth 100000 in
theorem dX9_data_345 : decode cX9_data 345 = .ok (.iload 4, 2) := by decide +kernel
set_option maxRecDepth 100000 in
theorem dX9_data_347 : decode cX9_data 347 = .ok (.aload_n 0, 1) := by decide +kernel
set_option maxRecDepth 100000 in
theorem dX9_data_348 : decode cX9_data 348 = .ok (.getfield 75, 3) := by decide +kernel
set_option maxRecDepth 100000 in
theorem dX9_data_351 : decode cX9_data 351 = .ok (.getfield 222, 3) := by decide +kernel
set_option maxRecDepth 100000 in
theorem dX9_data_354 : decode cX9_data 354 = .ok (.iload_n 2, 1) := by decide +kernel
set_option maxRecDepth 100000 in
theorem dX9_data_355 : decode cX9_data 355 = .ok (.iaload, 1) := by decide +kernel
set_option maxRecDepth 100000 in
theorem dX9_data_356 : decode cX9_data 356 = .ok (.invokevirtual 236, 3) := by decide +kernel
set_option maxRecDepth 100000 in
theorem dX9_data_359 : decode cX9_data 359 = .ok (.goto 27, 3) := by decide +kernel
set_option maxRecDepth 100000 in
theorem dX9_data_362 : decode cX9_data 362 = .ok (.aload_n 0, 1) := by decide +kernel
set_option maxRecDepth 100000 in
theorem dX9_data_363 : decode cX9_data 363 = .ok (.aload_n 0, 1) := by decide +kernel
set_option maxRecDepth 100000 in
theorem dX9_data_364 : decode cX9_data 364 = .ok (.getfield 75, 3) := by decide +kernel
set_option maxRecDepth 100000 in
theorem dX9_data_367 : decode cX9_data 367 = .ok (.getfield 222, 3) := by decide +kernel
set_option maxRecDepth 100000 in
theorem dX9_data_370 : decode cX9_data 370 = .ok (.iload_n 2, 1) := by decide +kernel
set_option maxRecDepth 100000 in
theorem dX9_data_371 : decode cX9_data 371 = .ok (.iaload, 1) := by decide +kernel
set_option maxRecDepth 100000 in
theorem dX9_data_372 : decode cX9_data 372 = .ok (.invokevirtual 240, 3) := by decide +kernel
set_option maxRecDepth 100000 in
theorem dX9_data_375 : decode cX9_data 375 = .ok (.goto 11, 3) := by decide +kernel
set_option maxRecDepth 100000 in
theorem dX9_data_378 : decode cX9_data 378 = .ok (.aload_n 0, 1) := by decide +kernel
set_option maxRecDepth 100000 in
theorem dX9_data_379 : decode cX9_data 379 = .ok (.iload_n 1, 1) := by decide +kernel
set_option maxRecDepth 100000 in
theorem dX9_data_380 : decode cX9_data 380 = .ok (.iload_n 3, 1) := by decide +kernel
set_option maxRecDepth 100000 in
theorem dX9_data_381 : decode cX9_data 381 = .ok (.iload 4, 2) := by decide +kernel
set_option maxRecDepth 100000 in
theorem dX9_data_383 : decode cX9_data 383 = .ok (.invokevirtual 243, 3) := by decide +kernel
set_option maxRecDepth 100000 in
theorem dX9_data_386 : decode cX9_data 386 = .ok (.return_, 1) := by decide +kernel
set_option maxRecDepth 100000 in
def bX9_data_386 (G : xG) (fr lo : Nat) (h : xH) (Q : Outcome → xH → Prop) : Prop := Q (.returned none) h
set_option maxRecDepth 100000 in
theorem uX9_data_386 {G : xG} {fr lo : Nat} {h : xH} {Q : Outcome → xH → Prop} (hq : bX9_data_386 G fr lo h Q) : xP G YX9_data fr lo 386 [] [] h Q := by
  unfold bX9_data_386 at hq
  exact x_vret rfl dX9_data_386 hq
set_option maxRecDepth 100000 in
def bX9_data_263 (G : xG) (fr lo : Nat) (x0 : Nat) (x2 : Int32) (h : xH) (Q : Outcome → xH → Prop) : Prop := tg h x0 = 10 ∧ tg h (fR h x0 2304) = 3 ∧ tg h (fR h (fR h x0 2304) 516) = 100 ∧ vp_in x2 (ln h (fR h (fR h x0 2304) 516)) ∧ 1 ≤ fr ∧ 14 ≤ lo ∧ xRv G YX9_fail (fr - 1) (lo - 14) [rv x0, .int 2, .int (aI h (fR h (fR h x0 2304) 516) (Int32.toNatClampNeg x2))] h (fun h7 => xext h h7 → bX9_data_386 G fr lo h7 Q) (fun r h2 => Q (.threw r) h2)
set_option maxRecDepth 100000 in
theorem uX9_data_263 {G : xG} {fr lo : Nat} {x0 : Nat} {x2 : Int32} {h : xH} {Q : Outcome → xH → Prop} (hq : bX9_data_263 G fr lo x0 x2 h Q) : xP G YX9_data fr lo 263 [(0, rv x0), (2, .int x2)] [] h Q := by
  unfold bX9_data_263 at hq
  refine x_aload_n 0 dX9_data_263 rfl ?_
  refine x_iconst (v := 2) dX9_data_264 (by decide) ?_
  refine x_aload_n 0 dX9_data_265 rfl ?_
  obtain ⟨g1, hq⟩ := hq
  refine x_get (v := rv (fR h x0 2304)) fdX9_75 dX9_data_266 g1 rfl ?_
  obtain ⟨g2, hq⟩ := hq
  refine x_getN (v := rv (fR h (fR h x0 2304) 516)) gfX9_222 dX9_data_269 g2 rfl ?_
  refine x_iload_n 1 dX9_data_272 rfl ?_
  obtain ⟨g3, hq⟩ := hq
  obtain ⟨i4, hq⟩ := hq
  refine x_iald 0 (Or.inl rfl) g3 i4 dX9_data_273 ?_
  obtain ⟨g5, g6, hq⟩ := hq
  refine x_callV (Yc := YX9_fail) (as := [.int 2, .int (aI h (fR h (fR h x0 2304) 516) (Int32.toNatClampNeg x2))]) (st := []) q2835 mvX9_fail g1 rfl dX9_data_274 (xle (xal1 (rv_cat _) (xal1 rfl (xal1 rfl xal0))) (by decide)) (xfr g5) (xlo xsw0 (by decide) g6) (xKv hq (fun h7 hq e9 => ?_) (fun _ _ q _ => q))
  replace hq := hq e9
  refine x_goto (tgt := 386) dX9_data_277 (by decide) ?_
  refine xP.pick (lv' := []) [] rfl ?_
  exact uX9_data_386 hq
set_option maxRecDepth 100000 in
def bX9_data (G : xG) (fr lo : Nat) (x0 : Nat) (x1 : Int32) (x2 : Int32) (h : xH) (Q : Outcome → xH → Prop) : Prop := tg h x0 = 10 ∧ tg h (fR h x0 2304) = 3 ∧ tg h (fR h (fR h x0 2304) 513) = 100 ∧ vp_in x2 (ln h (fR h (fR h x0 2304) 513)) ∧ tg h (fR h (fR h x0 2304) 514) = 100 ∧ vp_in x2 (ln h (fR h (fR h x0 2304) 514)) ∧ ((x1 = 0 → 1 ≤ fr ∧ 14 ≤ lo ∧ xRv G YX9_push (fr - 1) (lo - 14) [rv x0, .long (Int32.toInt64 (aI h (fR h (fR h x0 2304) 513) (Int32.toNatClampNeg x2)))] h (fun h10 => xext h h10 → bX9_data_386 G fr lo h10 Q) (fun r h2 => Q (.threw r) h2)) ∧ (x1 = 1 → tg h (fR h (fR h x0 2304) 518) = 102 ∧ vp_in (aI h (fR h (fR h x0 2304) 513) (Int32.toNatClampNeg x2)) (ln h (fR h (fR h x0 2304) 518)) ∧ tg h (fR h x0 2309) = 102 ∧ vp_in (fI h x0 2310) (ln h (fR h x0 2309)) ∧ (∀ h18 : xH, h18 = tD h (fR h x0 2309) (Int32.toNatClampNeg (fI h x0 2310)) (aD h (fR h (fR h x0 2304) 518) (Int32.toNatClampNeg (aI h (fR h (fR h x0 2304) 513) (Int32.toNatClampNeg x2)))) → (∀ h21 : xH, h21 = sI h18 x0 2310 ((fI h18 x0 2310) + 1) → bX9_data_386 G fr lo h21 Q))) ∧ (x1 = 2 → 1 ≤ fr ∧ 17 ≤ lo ∧ xRi G YX9_frameAbove (fr - 1) (lo - 17) [rv x0, .int (aI h (fR h (fR h x0 2304) 513) (Int32.toNatClampNeg x2))] h (fun x27 h26 => xext h h26 → tg h26 (fR h x0 2312) = 100 ∧ vp_in x27 (ln h26 (fR h x0 2312)) ∧ 1 ≤ fr ∧ 14 ≤ lo ∧ xRv G YX9_push (fr - 1) (lo - 14) [rv x0, .long (Int32.toInt64 ((aI h26 (fR h x0 2312) (Int32.toNatClampNeg x27)) + (aI h (fR h (fR h x0 2304) 514) (Int32.toNatClampNeg x2))))] h26 (fun h34 => xext h26 h34 → bX9_data_386 G fr lo h34 Q) (fun r h2 => Q (.threw r) h2)) (fun r h2 => Q (.threw r) h2)) ∧ (x1 = 3 → tg h (fR h x0 2305) = 11 ∧ 1 ≤ fr ∧ 18 ≤ lo ∧ xRi G YX9_frameAbove (fr - 1) (lo - 18) [rv x0, .int (aI h (fR h (fR h x0 2304) 513) (Int32.toNatClampNeg x2))] h (fun x42 h41 => xext h h41 → tg h41 (fR h x0 2312) = 100 ∧ vp_in x42 (ln h41 (fR h x0 2312)) ∧ tg h41 (fR h (fR h x0 2305) 2560) = 101 ∧ vp_in ((aI h41 (fR h x0 2312) (Int32.toNatClampNeg x42)) + (aI h (fR h (fR h x0 2304) 514) (Int32.toNatClampNeg x2))) (ln h41 (fR h (fR h x0 2305) 2560)) ∧ 1 ≤ fr ∧ 14 ≤ lo ∧ xRv G YX9_push (fr - 1) (lo - 14) [rv x0, .long (aJ h41 (fR h (fR h x0 2305) 2560) (Int32.toNatClampNeg ((aI h41 (fR h x0 2312) (Int32.toNatClampNeg x42)) + (aI h (fR h (fR h x0 2304) 514) (Int32.toNatClampNeg x2)))))] h41 (fun h51 => xext h41 h51 → bX9_data_386 G fr lo h51 Q) (fun r h2 => Q (.threw r) h2)) (fun r h2 => Q (.threw r) h2)) ∧ (x1 = 4 → tg h (fR h x0 2307) = 101 ∧ vp_in ((fI h x0 2310) - 1) (ln h (fR h x0 2307)) ∧ vp_in ((fI h x0 2310) - 1) (ln h (fR h x0 2307)) ∧ (∀ h58 : xH, h58 = tJ h (fR h x0 2307) (Int32.toNatClampNeg ((fI h x0 2310) - 1)) ((aJ h (fR h x0 2307) (Int32.toNatClampNeg ((fI h x0 2310) - 1))) + (Int32.toInt64 (aI h (fR h (fR h x0 2304) 513) (Int32.toNatClampNeg x2)))) → bX9_data_386 G fr lo h58 Q)) ∧ (x1 = 5 → 1 ≤ fr ∧ 12 ≤ lo ∧ xRi G YX9_pop (fr - 1) (lo - 12) [rv x0] h (fun x64 h63 => xext h h63 → ((x64 < (aI h (fR h (fR h x0 2304) 513) (Int32.toNatClampNeg x2)) → bX9_data_263 G fr lo x0 x2 h63 Q) ∧ (¬ x64 < (aI h (fR h (fR h x0 2304) 513) (Int32.toNatClampNeg x2)) → ((x64 ≤ (aI h (fR h (fR h x0 2304) 514) (Int32.toNatClampNeg x2)) → tg h63 (fR h63 x0 2307) = 101 ∧ vp_in ((fI h63 x0 2310) - 1) (ln h63 (fR h63 x0 2307)) ∧ tg h63 (fR h63 x0 2304) = 3 ∧ tg h63 (fR h63 (fR h63 x0 2304) 515) = 100 ∧ vp_in x2 (ln h63 (fR h63 (fR h63 x0 2304) 515)) ∧ vp_in ((fI h63 x0 2310) - 1) (ln h63 (fR h63 x0 2307)) ∧ (∀ h75 : xH, h75 = tJ h63 (fR h63 x0 2307) (Int32.toNatClampNeg ((fI h63 x0 2310) - 1)) ((aJ h63 (fR h63 x0 2307) (Int32.toNatClampNeg ((fI h63 x0 2310) - 1))) + (((Int32.toInt64 x64) - (Int32.toInt64 (aI h (fR h (fR h x0 2304) 513) (Int32.toNatClampNeg x2)))) * (Int32.toInt64 (aI h63 (fR h63 (fR h63 x0 2304) 515) (Int32.toNatClampNeg x2))))) → bX9_data_386 G fr lo h75 Q)) ∧ (¬ x64 ≤ (aI h (fR h (fR h x0 2304) 514) (Int32.toNatClampNeg x2)) → bX9_data_263 G fr lo x0 x2 h63 Q))))) (fun r h2 => Q (.threw r) h2)) ∧ (x1 = 6 → tg h (fR h (fR h x0 2304) 516) = 100 ∧ vp_in x2 (ln h (fR h (fR h x0 2304) 516)) ∧ 1 ≤ fr ∧ 14 ≤ lo ∧ xRv G YX9_points (fr - 1) (lo - 14) [rv x0, .int (aI h (fR h (fR h x0 2304) 516) (Int32.toNatClampNeg x2))] h (fun h82 => xext h h82 → bX9_data_386 G fr lo h82 Q) (fun r h2 => Q (.threw r) h2)) ∧ (x1 = 7 → 1 ≤ fr ∧ 19 ≤ lo ∧ xRv G YX9_stores (fr - 1) (lo - 19) [rv x0, .int x1, .int (aI h (fR h (fR h x0 2304) 513) (Int32.toNatClampNeg x2)), .int (aI h (fR h (fR h x0 2304) 514) (Int32.toNatClampNeg x2))] h (fun h88 => xext h h88 → bX9_data_386 G fr lo h88 Q) (fun r h2 => Q (.threw r) h2)) ∧ (x1 = 8 → tg h (fR h (fR h x0 2304) 523) = 29 ∧ 1 ≤ fr ∧ 14 ≤ lo ∧ xRr G YJ2_get (fr - 1) (lo - 14) [rv (fR h (fR h x0 2304) 523), .int (aI h (fR h (fR h x0 2304) 513) (Int32.toNatClampNeg x2))] h (fun x96 h95 => xext h h95 → tg h95 x96 = 20 ∧ tg h95 (fR h95 x0 2304) = 3 ∧ tg h95 (fR h95 (fR h95 x0 2304) 516) = 100 ∧ vp_in x2 (ln h95 (fR h95 (fR h95 x0 2304) 516)) ∧ 1 ≤ fr ∧ 17 ≤ lo ∧ xRv G YX9_looks (fr - 1) (lo - 17) [rv x0, rv x96, .int (aI h (fR h (fR h x0 2304) 514) (Int32.toNatClampNeg x2)), .int (aI h95 (fR h95 (fR h95 x0 2304) 516) (Int32.toNatClampNeg x2))] h95 (fun h105 => xext h95 h105 → bX9_data_386 G fr lo h105 Q) (fun r h2 => Q (.threw r) h2)) (fun r h2 => Q (.threw r) h2)) ∧ (x1 = 9 → tg h (fR h (fR h x0 2304) 516) = 100 ∧ vp_in x2 (ln h (fR h (fR h x0 2304) 516)) ∧ 1 ≤ fr ∧ 14 ≤ lo ∧ xRv G YX9_loads (fr - 1) (lo - 14) [rv x0, .int (aI h (fR h (fR h x0 2304) 516) (Int32.toNatClampNeg x2))] h (fun h113 => xext h h113 → bX9_data_386 G fr lo h113 Q) (fun r h2 => Q (.threw r) h2)) ∧ (x1 = 10 → tg h (fR h (fR h x0 2304) 516) = 100 ∧ vp_in x2 (ln h (fR h (fR h x0 2304) 516)) ∧ 1 ≤ fr ∧ 14 ≤ lo ∧ xRv G YX9_loads (fr - 1) (lo - 14) [rv x0, .int (aI h (fR h (fR h x0 2304) 516) (Int32.toNatClampNeg x2))] h (fun h121 => xext h h121 → bX9_data_386 G fr lo h121 Q) (fun r h2 => Q (.threw r) h2)) ∧ (x1 = 11 → tg h (fR h (fR h x0 2304) 516) = 100 ∧ vp_in x2 (ln h (fR h (fR h x0 2304) 516)) ∧ 1 ≤ fr ∧ 14 ≤ lo ∧ xRv G YX9_loads (fr - 1) (lo - 14) [rv x0, .int (aI h (fR h (fR h x0 2304) 516) (Int32.toNatClampNeg x2))] h (fun h129 => xext h h129 → bX9_data_386 G fr lo h129 Q) (fun r h2 => Q (.threw r) h2)) ∧ (x1 = 12 → 1 ≤ fr ∧ 19 ≤ lo ∧ xRv G YX9_stores (fr - 1) (lo - 19) [rv x0, .int x1, .int (aI h (fR h (fR h x0 2304) 513) (Int32.toNatClampNeg x2)), .int (aI h (fR h (fR h x0 2304) 514) (Int32.toNatClampNeg x2))] h (fun h135 => xext h h135 → bX9_data_386 G fr lo h135 Q) (fun r h2 => Q (.threw r) h2)) ∧ (x1 = 13 → 1 ≤ fr ∧ 19 ≤ lo ∧ xRv G YX9_stores (fr - 1) (lo - 19) [rv x0, .int x1, .int (aI h (fR h (fR h x0 2304) 513) (Int32.toNatClampNeg x2)), .int (aI h (fR h (fR h x0 2304) 514) (Int32.toNatClampNeg x2))] h (fun h141 => xext h h141 → bX9_data_386 G fr lo h141 Q) (fun r h2 => Q (.threw r) h2)) ∧ (x1 = 14 → 1 ≤ fr ∧ 19 ≤ lo ∧ xRv G YX9_stores (fr - 1) (lo - 19) [rv x0, .int x1, .int (aI h (fR h (fR h x0 2304) 513) (Int32.toNatClampNeg x2)), .int (aI h (fR h (fR h x0 2304) 514) (Int32.toNatClampNeg x2))] h (fun h147 => xext h h147 → bX9_data_386 G fr lo h147 Q) (fun r h2 => Q (.threw r) h2)) ∧ (x1 = 15 → 1 ≤ fr ∧ 19 ≤ lo ∧ xRv G YX9_stores (fr - 1) (lo - 19) [rv x0, .int x1, .int (aI h (fR h (fR h x0 2304) 513) (Int32.toNatClampNeg x2)), .int (aI h (fR h (fR h x0 2304) 514) (Int32.toNatClampNeg x2))] h (fun h153 => xext h h153 → bX9_data_386 G fr lo h153 Q) (fun r h2 => Q (.threw r) h2)) ∧ (x1 = 16 → 1 ≤ fr ∧ 19 ≤ lo ∧ xRv G YX9_stores (fr - 1) (lo - 19) [rv x0, .int x1, .int (aI h (fR h (fR h x0 2304) 513) (Int32.toNatClampNeg x2)), .int (aI h (fR h (fR h x0 2304) 514) (Int32.toNatClampNeg x2))] h (fun h159 => xext h h159 → bX9_data_386 G fr lo h159 Q) (fun r h2 => Q (.threw r) h2)) ∧ (x1 = 17 → tg h (fR h (fR h x0 2304) 516) = 100 ∧ vp_in x2 (ln h (fR h (fR h x0 2304) 516)) ∧ 1 ≤ fr ∧ 14 ≤ lo ∧ xRv G YX9_loads (fr - 1) (lo - 14) [rv x0, .int (aI h (fR h (fR h x0 2304) 516) (Int32.toNatClampNeg x2))] h (fun h167 => xext h h167 → bX9_data_386 G fr lo h167 Q) (fun r h2 => Q (.threw r) h2)) ∧ (x1 = 18 → 1 ≤ fr ∧ 19 ≤ lo ∧ xRv G YX9_stores (fr - 1) (lo - 19) [rv x0, .int x1, .int (aI h (fR h (fR h x0 2304) 513) (Int32.toNatClampNeg x2)), .int (aI h (fR h (fR h x0 2304) 514) (Int32.toNatClampNeg x2))] h (fun h173 => xext h h173 → bX9_data_386 G fr lo h173 Q) (fun r h2 => Q (.threw r) h2)) ∧ (x1 = 19 → 1 ≤ fr ∧ 14 ≤ lo ∧ xRv G YX9_push (fr - 1) (lo - 14) [rv x0, .long 0] h (fun h179 => xext h h179 → tg h179 (fR h179 x0 2308) = 101 ∧ vp_in ((fI h179 x0 2310) - 1) (ln h179 (fR h179 x0 2308)) ∧ (∀ h185 : xH, h185 = tJ h179 (fR h179 x0 2308) (Int32.toNatClampNeg ((fI h179 x0 2310) - 1)) 0 → bX9_data_386 G fr lo h185 Q)) (fun r h2 => Q (.threw r) h2)) ∧ (¬ x1 = 0 → ¬ x1 = 1 → ¬ x1 = 2 → ¬ x1 = 3 → ¬ x1 = 4 → ¬ x1 = 5 → ¬ x1 = 6 → ¬ x1 = 7 → ¬ x1 = 8 → ¬ x1 = 9 → ¬ x1 = 10 → ¬ x1 = 11 → ¬ x1 = 12 → ¬ x1 = 13 → ¬ x1 = 14 → ¬ x1 = 15 → ¬ x1 = 16 → ¬ x1 = 17 → ¬ x1 = 18 → ¬ x1 = 19 → 1 ≤ fr ∧ 19 ≤ lo ∧ xRv G YX9_stores (fr - 1) (lo - 19) [rv x0, .int x1, .int (aI h (fR h (fR h x0 2304) 513) (Int32.toNatClampNeg x2)), .int (aI h (fR h (fR h x0 2304) 514) (Int32.toNatClampNeg x2))] h (fun h189 => xext h h189 → bX9_data_386 G fr lo h189 Q) (fun r h2 => Q (.threw r) h2)))
set_option maxRecDepth 100000 in
theorem uX9_data {G : xG} {fr lo : Nat} {x0 : Nat} {x1 : Int32} {x2 : Int32} {h : xH} {Q : Outcome → xH → Prop} (hq : bX9_data G fr lo x0 x1 x2 h Q) : xP G YX9_data fr lo 0 [(0, rv x0), (1, .int x1), (2, .int x2)] [] h Q := by
  unfold bX9_data at hq
  refine x_aload_n 0 dX9_data_0 rfl ?_
  obtain ⟨g1, hq⟩ := hq
  refine x_get (v := rv (fR h x0 2304)) fdX9_75 dX9_data_1 g1 rfl ?_
  obtain ⟨g2, hq⟩ := hq
  refine x_getN (v := rv (fR h (fR h x0 2304) 513)) gfX9_201 dX9_data_4 g2 rfl ?_
  refine x_iload_n 2 dX9_data_7 rfl ?_
  obtain ⟨g3, hq⟩ := hq
  obtain ⟨i4, hq⟩ := hq
  refine x_iald 0 (Or.inl rfl) g3 i4 dX9_data_8 ?_
  refine x_istore_n (lv' := [(3, .int (aI h (fR h (fR h x0 2304) 513) (Int32.toNatClampNeg x2))), (0, rv x0), (1, .int x1), (2, .int x2)]) dX9_data_9 (by decide) rfl ?_
  refine x_aload_n 1 dX9_data_10 rfl ?_
  refine x_get (v := rv (fR h x0 2304)) fdX9_75 dX9_data_11 g1 rfl ?_
  refine x_getN (v := rv (fR h (fR h x0 2304) 514)) gfX9_204 dX9_data_14 g2 rfl ?_
  refine x_iload_n 3 dX9_data_17 rfl ?_
  obtain ⟨g5, hq⟩ := hq
  obtain ⟨i6, hq⟩ := hq
  refine x_iald 0 (Or.inl rfl) g5 i6 dX9_data_18 ?_
  refine x_istore (lv' := [(4, .int (aI h (fR h (fR h x0 2304) 514) (Int32.toNatClampNeg x2))), (3, .int (aI h (fR h (fR h x0 2304) 513) (Int32.toNatClampNeg x2))), (0, rv x0), (1, .int x1), (2, .int x2)]) dX9_data_19 (by decide) rfl ?_
  refine x_iload_n 3 dX9_data_21 rfl ?_
  by_cases c7 : x1 = 0
  · replace hq := hq.1 c7
    refine x_tin (tgt := 116) (off := 94) 0 c7 dX9_data_22 (by decide) (by decide) (by decide) (by decide) ?_
    refine x_aload_n 2 dX9_data_116 rfl ?_
    refine x_iload_n 1 dX9_data_117 rfl ?_
    refine x_i2l dX9_data_118 ?_
    obtain ⟨g8, g9, hq⟩ := hq
    refine x_callV (Yc := YX9_push) (as := [.long (Int32.toInt64 (aI h (fR h (fR h x0 2304) 513) (Int32.toNatClampNeg x2)))]) (st := []) q2891 mvX9_push g1 rfl dX9_data_119 (xle (xal1 (rv_cat _) (xal2 rfl xal0)) (by decide)) (xfr g8) (xlo xsw0 (by decide) g9) (xKv hq (fun h10 hq e12 => ?_) (fun _ _ q _ => q))
    replace hq := hq e12
    refine x_goto (tgt := 386) dX9_data_122 (by decide) ?_
    refine xP.pick (lv' := []) [] rfl ?_
    exact uX9_data_386 hq
  replace hq := hq.2
  by_cases c13 : x1 = 1
  · replace hq := hq.1 c13
    refine x_tin (tgt := 145) (off := 123) 1 c13 dX9_data_22 (by decide) (by decide) (by decide) (by decide) ?_
    refine x_aload_n 2 dX9_data_145 rfl ?_
    refine x_get (v := rv (fR h x0 2309)) fdX9_35 dX9_data_146 g1 rfl ?_
    refine x_aload_n 2 dX9_data_149 rfl ?_
    refine x_get (v := .int (fI h x0 2310)) fdX9_86 dX9_data_150 g1 rfl ?_
    refine x_aload_n 2 dX9_data_153 rfl ?_
    refine x_get (v := rv (fR h x0 2304)) fdX9_75 dX9_data_154 g1 rfl ?_
    refine x_getN (v := rv (fR h (fR h x0 2304) 518)) gfX9_211 dX9_data_157 g2 rfl ?_
    refine x_iload_n 1 dX9_data_160 rfl ?_
    obtain ⟨g14, hq⟩ := hq
    obtain ⟨i15, hq⟩ := hq
    refine x_dald g14 i15 dX9_data_161 ?_
    obtain ⟨g16, hq⟩ := hq
    obtain ⟨i17, hq⟩ := hq
    obtain ⟨h18, e19⟩ : ∃ y, y = tD h (fR h x0 2309) (Int32.toNatClampNeg (fI h x0 2310)) (aD h (fR h (fR h x0 2304) 518) (Int32.toNatClampNeg (aI h (fR h (fR h x0 2304) 513) (Int32.toNatClampNeg x2)))) := ⟨_, rfl⟩
    replace hq := hq h18 e19
    refine x_dast' g16 i17 dX9_data_162 e19 ?_
    refine x_aload_n 2 dX9_data_163 rfl ?_
    refine x_dup dX9_data_164 (rv_cat _) ?_
    have t20 : tg h18 x0 = 10 := by rw [e19]; exact g1
    refine x_get (v := .int (fI h18 x0 2310)) fdX9_86 dX9_data_165 t20 rfl ?_
    refine x_iconst (v := 1) dX9_data_168 (by decide) ?_
    refine x_iadd dX9_data_169 ?_
    obtain ⟨h21, e22⟩ : ∃ y, y = sI h18 x0 2310 ((fI h18 x0 2310) + 1) := ⟨_, rfl⟩
    replace hq := hq h21 e22
    refine x_putI fdX9_86 xty_I1 dX9_data_170 t20 (Or.inl (by rw [t20]; rfl)) xnI rfl e22 ?_
    refine x_goto (tgt := 386) dX9_data_173 (by decide) ?_
    refine xP.pick (lv' := []) [] rfl ?_
    exact uX9_data_386 hq
  replace hq := hq.2
  by_cases c23 : x1 = 2
  · replace hq := hq.1 c23
    refine x_tin (tgt := 176) (off := 154) 2 c23 dX9_data_22 (by decide) (by decide) (by decide) (by decide) ?_
    refine x_aload_n 2 dX9_data_176 rfl ?_
    refine x_aload_n 2 dX9_data_177 rfl ?_
    refine x_get (v := rv (fR h x0 2312)) fdX9_39 dX9_data_178 g1 rfl ?_
    refine x_aload_n 2 dX9_data_181 rfl ?_
    refine x_iload_n 1 dX9_data_182 rfl ?_
    obtain ⟨g24, g25, hq⟩ := hq
    refine x_callV (Yc := YX9_frameAbove) (as := [.int (aI h (fR h (fR h x0 2304) 513) (Int32.toNatClampNeg x2))]) (st := [rv (fR h x0 2312), rv x0]) q2895 mvX9_frameAbove g1 rfl dX9_data_183 (xle (xal1 (rv_cat _) (xal1 rfl xal0)) (by decide)) (xfr g24) (xlo (xsw1 (rv_cat _) (xsw1 (rv_cat _) xsw0)) (by decide) g25) (xKi hq (fun x27 h26 hq e28 => ?_) (fun _ _ q _ => q))
    replace hq := hq e28
    obtain ⟨g29, hq⟩ := hq
    obtain ⟨i30, hq⟩ := hq
    refine x_iald 0 (Or.inl rfl) g29 i30 dX9_data_186 ?_
    refine x_iload 0 dX9_data_187 rfl ?_
    refine x_iadd dX9_data_189 ?_
    refine x_i2l dX9_data_190 ?_
    have t31 : tg h26 x0 = 10 := e28.tg g1 (by decide)
    obtain ⟨g32, g33, hq⟩ := hq
    refine x_callV (Yc := YX9_push) (as := [.long (Int32.toInt64 ((aI h26 (fR h x0 2312) (Int32.toNatClampNeg x27)) + (aI h (fR h (fR h x0 2304) 514) (Int32.toNatClampNeg x2))))]) (st := []) q2891 mvX9_push t31 rfl dX9_data_191 (xle (xal1 (rv_cat _) (xal2 rfl xal0)) (by decide)) (xfr g32) (xlo xsw0 (by decide) g33) (xKv hq (fun h34 hq e36 => ?_) (fun _ _ q _ => q))
    replace hq := hq e36
    refine x_goto (tgt := 386) dX9_data_194 (by decide) ?_
    refine xP.pick (lv' := []) [] rfl ?_
    exact uX9_data_386 hq
  replace hq := hq.2
  by_cases c37 : x1 = 3
  · replace hq := hq.1 c37
    refine x_tin (tgt := 197) (off := 175) 3 c37 dX9_data_22 (by decide) (by decide) (by decide) (by decide) ?_
    refine x_aload_n 2 dX9_data_197 rfl ?_
    refine x_aload_n 2 dX9_data_198 rfl ?_
    refine x_get (v := rv (fR h x0 2305)) fdX9_12 dX9_data_199 g1 rfl ?_
    obtain ⟨g38, hq⟩ := hq
    refine x_getN (v := rv (fR h (fR h x0 2305) 2560)) gfX9_218 dX9_data_202 g38 rfl ?_
    refine x_aload_n 2 dX9_data_205 rfl ?_
    refine x_get (v := rv (fR h x0 2312)) fdX9_39 dX9_data_206 g1 rfl ?_
    refine x_aload_n 2 dX9_data_209 rfl ?_
    refine x_iload_n 1 dX9_data_210 rfl ?_
    obtain ⟨g39, g40, hq⟩ := hq
    refine x_callV (Yc := YX9_frameAbove) (as := [.int (aI h (fR h (fR h x0 2304) 513) (Int32.toNatClampNeg x2))]) (st := [rv (fR h x0 2312), rv (fR h (fR h x0 2305) 2560), rv x0]) q2895 mvX9_frameAbove g1 rfl dX9_data_211 (xle (xal1 (rv_cat _) (xal1 rfl xal0)) (by decide)) (xfr g39) (xlo (xsw1 (rv_cat _) (xsw1 (rv_cat _) (xsw1 (rv_cat _) xsw0))) (by decide) g40) (xKi hq (fun x42 h41 hq e43 => ?_) (fun _ _ q _ => q))
    replace hq := hq e43
    obtain ⟨g44, hq⟩ := hq
    obtain ⟨i45, hq⟩ := hq
    refine x_iald 0 (Or.inl rfl) g44 i45 dX9_data_214 ?_
    refine x_iload 0 dX9_data_215 rfl ?_
    refine x_iadd dX9_data_217 ?_
    obtain ⟨g46, hq⟩ := hq
    obtain ⟨i47, hq⟩ := hq
    refine x_lald g46 i47 dX9_data_218 ?_
    have t48 : tg h41 x0 = 10 := e43.tg g1 (by decide)
    obtain ⟨g49, g50, hq⟩ := hq
    refine x_callV (Yc := YX9_push) (as := [.long (aJ h41 (fR h (fR h x0 2305) 2560) (Int32.toNatClampNeg ((aI h41 (fR h x0 2312) (Int32.toNatClampNeg x42)) + (aI h (fR h (fR h x0 2304) 514) (Int32.toNatClampNeg x2)))))]) (st := []) q2891 mvX9_push t48 rfl dX9_data_219 (xle (xal1 (rv_cat _) (xal2 rfl xal0)) (by decide)) (xfr g49) (xlo xsw0 (by decide) g50) (xKv hq (fun h51 hq e53 => ?_) (fun _ _ q _ => q))
    replace hq := hq e53
    refine x_goto (tgt := 386) dX9_data_222 (by decide) ?_
    refine xP.pick (lv' := []) [] rfl ?_
    exact uX9_data_386 hq
  replace hq := hq.2
  by_cases c54 : x1 = 4
  · replace hq := hq.1 c54
    refine x_tin (tgt := 225) (off := 203) 4 c54 dX9_data_22 (by decide) (by decide) (by decide) (by decide) ?_
    refine x_aload_n 2 dX9_data_225 rfl ?_
    refine x_get (v := rv (fR h x0 2307)) fdX9_28 dX9_data_226 g1 rfl ?_
    refine x_aload_n 2 dX9_data_229 rfl ?_
    refine x_get (v := .int (fI h x0 2310)) fdX9_86 dX9_data_230 g1 rfl ?_
    refine x_iconst (v := 1) dX9_data_233 (by decide) ?_
    refine x_isub dX9_data_234 ?_
    refine x_dup2 dX9_data_235 rfl (rv_cat _) ?_
    obtain ⟨g55, hq⟩ := hq
    obtain ⟨i56, hq⟩ := hq
    refine x_lald g55 i56 dX9_data_236 ?_
    refine x_iload_n 1 dX9_data_237 rfl ?_
    refine x_i2l dX9_data_238 ?_
    refine x_ladd dX9_data_239 ?_
    obtain ⟨i57, hq⟩ := hq
    obtain ⟨h58, e59⟩ : ∃ y, y = tJ h (fR h x0 2307) (Int32.toNatClampNeg ((fI h x0 2310) - 1)) ((aJ h (fR h x0 2307) (Int32.toNatClampNeg ((fI h x0 2310) - 1))) + (Int32.toInt64 (aI h (fR h (fR h x0 2304) 513) (Int32.toNatClampNeg x2)))) := ⟨_, rfl⟩
    replace hq := hq h58 e59
    refine x_last' g55 i57 dX9_data_240 e59 ?_
    refine x_goto (tgt := 386) dX9_data_241 (by decide) ?_
    refine xP.pick (lv' := []) [] rfl ?_
    exact uX9_data_386 hq
  replace hq := hq.2
  by_cases c60 : x1 = 5
  · replace hq := hq.1 c60
    refine x_tin (tgt := 244) (off := 222) 5 c60 dX9_data_22 (by decide) (by decide) (by decide) (by decide) ?_
    refine x_aload_n 2 dX9_data_244 rfl ?_
    obtain ⟨g61, g62, hq⟩ := hq
    refine x_callV (Yc := YX9_pop) (as := []) (st := []) q2899 mvX9_pop g1 rfl dX9_data_245 (xle (xal1 (rv_cat _) xal0) (by decide)) (xfr g61) (xlo xsw0 (by decide) g62) (xKi hq (fun x64 h63 hq e65 => ?_) (fun _ _ q _ => q))
    replace hq := hq e65
    refine x_istore (lv' := [(5, .int x64), (4, .int (aI h (fR h (fR h x0 2304) 514) (Int32.toNatClampNeg x2))), (3, .int (aI h (fR h (fR h x0 2304) 513) (Int32.toNatClampNeg x2))), (0, rv x0), (1, .int x1), (2, .int x2)]) dX9_data_248 (by decide) rfl ?_
    refine x_iload 0 dX9_data_250 rfl ?_
    refine x_iload_n 2 dX9_data_252 rfl ?_
    refine x_icmp_lt (tgt := 263) dX9_data_253 (by decide) (fun c66 => ?_) (fun c66 => ?_)
    · replace hq := hq.1 c66
      refine xP.pick (lv' := [(0, rv x0), (2, .int x2)]) [3, 5] rfl ?_
      exact uX9_data_263 hq
    · replace hq := hq.2 c66
      refine x_iload 0 dX9_data_256 rfl ?_
      refine x_iload 1 dX9_data_258 rfl ?_
      refine x_icmp_le (tgt := 280) dX9_data_260 (by decide) (fun c67 => ?_) (fun c67 => ?_)
      · replace hq := hq.1 c67
        refine x_aload_n 3 dX9_data_280 rfl ?_
        have t68 : tg h63 x0 = 10 := e65.tg g1 (by decide)
        refine x_get (v := rv (fR h63 x0 2307)) fdX9_28 dX9_data_281 t68 rfl ?_
        refine x_aload_n 3 dX9_data_284 rfl ?_
        refine x_get (v := .int (fI h63 x0 2310)) fdX9_86 dX9_data_285 t68 rfl ?_
        refine x_iconst (v := 1) dX9_data_288 (by decide) ?_
        refine x_isub dX9_data_289 ?_
        refine x_dup2 dX9_data_290 rfl (rv_cat _) ?_
        obtain ⟨g69, hq⟩ := hq
        obtain ⟨i70, hq⟩ := hq
        refine x_lald g69 i70 dX9_data_291 ?_
        refine x_iload 0 dX9_data_292 rfl ?_
        refine x_i2l dX9_data_294 ?_
        refine x_iload_n 2 dX9_data_295 rfl ?_
        refine x_i2l dX9_data_296 ?_
        refine x_lsub dX9_data_297 ?_
        refine x_aload_n 3 dX9_data_298 rfl ?_
        refine x_get (v := rv (fR h63 x0 2304)) fdX9_75 dX9_data_299 t68 rfl ?_
        obtain ⟨g71, hq⟩ := hq
        refine x_getN (v := rv (fR h63 (fR h63 x0 2304) 515)) gfX9_224 dX9_data_302 g71 rfl ?_
        refine x_iload_n 5 dX9_data_305 rfl ?_
        obtain ⟨g72, hq⟩ := hq
        obtain ⟨i73, hq⟩ := hq
        refine x_iald 0 (Or.inl rfl) g72 i73 dX9_data_306 ?_
        refine x_i2l dX9_data_307 ?_
        refine x_lmul dX9_data_308 ?_
        refine x_ladd dX9_data_309 ?_
        obtain ⟨i74, hq⟩ := hq
        obtain ⟨h75, e76⟩ : ∃ y, y = tJ h63 (fR h63 x0 2307) (Int32.toNatClampNeg ((fI h63 x0 2310) - 1)) ((aJ h63 (fR h63 x0 2307) (Int32.toNatClampNeg ((fI h63 x0 2310) - 1))) + (((Int32.toInt64 x64) - (Int32.toInt64 (aI h (fR h (fR h x0 2304) 513) (Int32.toNatClampNeg x2)))) * (Int32.toInt64 (aI h63 (fR h63 (fR h63 x0 2304) 515) (Int32.toNatClampNeg x2))))) := ⟨_, rfl⟩
        replace hq := hq h75 e76
        refine x_last' g69 i74 dX9_data_310 e76 ?_
        refine x_goto (tgt := 386) dX9_data_311 (by decide) ?_
        refine xP.pick (lv' := []) [] rfl ?_
        exact uX9_data_386 hq
      · replace hq := hq.2 c67
        refine xP.pick (lv' := [(0, rv x0), (2, .int x2)]) [3, 5] rfl ?_
        exact uX9_data_263 hq
  replace hq := hq.2
  by_cases c77 : x1 = 6
  · replace hq := hq.1 c77
    refine x_tin (tgt := 314) (off := 292) 6 c77 dX9_data_22 (by decide) (by decide) (by decide) (by decide) ?_
    refine x_aload_n 2 dX9_data_314 rfl ?_
    refine x_aload_n 2 dX9_data_315 rfl ?_
    refine x_get (v := rv (fR h x0 2304)) fdX9_75 dX9_data_316 g1 rfl ?_
    refine x_getN (v := rv (fR h (fR h x0 2304) 516)) gfX9_222 dX9_data_319 g2 rfl ?_
    refine x_iload_n 4 dX9_data_322 rfl ?_
    obtain ⟨g78, hq⟩ := hq
    obtain ⟨i79, hq⟩ := hq
    refine x_iald 0 (Or.inl rfl) g78 i79 dX9_data_323 ?_
    obtain ⟨g80, g81, hq⟩ := hq
    refine x_callV (Yc := YX9_points) (as := [.int (aI h (fR h (fR h x0 2304) 516) (Int32.toNatClampNeg x2))]) (st := []) q2903 mvX9_points g1 rfl dX9_data_324 (xle (xal1 (rv_cat _) (xal1 rfl xal0)) (by decide)) (xfr g80) (xlo xsw0 (by decide) g81) (xKv hq (fun h82 hq e84 => ?_) (fun _ _ q _ => q))
    replace hq := hq e84
    refine x_goto (tgt := 386) dX9_data_327 (by decide) ?_
    refine xP.pick (lv' := []) [] rfl ?_
    exact uX9_data_386 hq
  replace hq := hq.2
  by_cases c85 : x1 = 7
  · replace hq := hq.1 c85
    refine x_tin (tgt := 378) (off := 356) 7 c85 dX9_data_22 (by decide) (by decide) (by decide) (by decide) ?_
    refine x_aload_n 2 dX9_data_378 rfl ?_
    refine x_iload_n 3 dX9_data_379 rfl ?_
    refine x_iload_n 1 dX9_data_380 rfl ?_
    refine x_iload 0 dX9_data_381 rfl ?_
    obtain ⟨g86, g87, hq⟩ := hq
    refine x_callV (Yc := YX9_stores) (as := [.int x1, .int (aI h (fR h (fR h x0 2304) 513) (Int32.toNatClampNeg x2)), .int (aI h (fR h (fR h x0 2304) 514) (Int32.toNatClampNeg x2))]) (st := []) q2921 mvX9_stores g1 rfl dX9_data_383 (xle (xal1 (rv_cat _) (xal1 rfl (xal1 rfl (xal1 rfl xal0)))) (by decide)) (xfr g86) (xlo xsw0 (by decide) g87) (xKv hq (fun h88 hq e90 => ?_) (fun _ _ q _ => q))
    replace hq := hq e90
    refine xP.pick (lv' := []) [] rfl ?_
    exact uX9_data_386 hq
  replace hq := hq.2
  by_cases c91 : x1 = 8
  · replace hq := hq.1 c91
    refine x_tin (tgt := 330) (off := 308) 8 c91 dX9_data_22 (by decide) (by decide) (by decide) (by decide) ?_
    refine x_aload_n 2 dX9_data_330 rfl ?_
    refine x_aload_n 2 dX9_data_331 rfl ?_
    refine x_get (v := rv (fR h x0 2304)) fdX9_75 dX9_data_332 g1 rfl ?_
    refine x_getN (v := rv (fR h (fR h x0 2304) 523)) gfX9_231 dX9_data_335 g2 rfl ?_
    refine x_iload_n 1 dX9_data_338 rfl ?_
    obtain ⟨g92, hq⟩ := hq
    obtain ⟨g93, g94, hq⟩ := hq
    refine x_callV (Yc := YJ2_get) (as := [.int (aI h (fR h (fR h x0 2304) 513) (Int32.toNatClampNeg x2))]) (st := [rv x0]) q2848 mvJ2_get g92 rfl dX9_data_339 (xle (xal1 (rv_cat _) (xal1 rfl xal0)) (by decide)) (xfr g93) (xlo (xsw1 (rv_cat _) xsw0) (by decide) g94) (xKr hq (fun x96 h95 hq e97 => ?_) (fun _ _ q _ => q))
    replace hq := hq e97
    obtain ⟨g98, hq⟩ := hq
    refine x_cast (ci := 19) (by decide) rfl q2907 g98 dX9_data_342 ?_
    refine x_iload 0 dX9_data_345 rfl ?_
    refine x_aload_n 2 dX9_data_347 rfl ?_
    have t99 : tg h95 x0 = 10 := e97.tg g1 (by decide)
    refine x_get (v := rv (fR h95 x0 2304)) fdX9_75 dX9_data_348 t99 rfl ?_
    obtain ⟨g100, hq⟩ := hq
    refine x_getN (v := rv (fR h95 (fR h95 x0 2304) 516)) gfX9_222 dX9_data_351 g100 rfl ?_
    refine x_iload_n 4 dX9_data_354 rfl ?_
    obtain ⟨g101, hq⟩ := hq
    obtain ⟨i102, hq⟩ := hq
    refine x_iald 0 (Or.inl rfl) g101 i102 dX9_data_355 ?_
    obtain ⟨g103, g104, hq⟩ := hq
    refine x_callV (Yc := YX9_looks) (as := [rv x96, .int (aI h (fR h (fR h x0 2304) 514) (Int32.toNatClampNeg x2)), .int (aI h95 (fR h95 (fR h95 x0 2304) 516) (Int32.toNatClampNeg x2))]) (st := []) q2908 mvX9_looks t99 rfl dX9_data_356 (xle (xal1 (rv_cat _) (xal1 (rv_cat _) (xal1 rfl (xal1 rfl xal0)))) (by decide)) (xfr g103) (xlo xsw0 (by decide) g104) (xKv hq (fun h105 hq e107 => ?_) (fun _ _ q _ => q))
    replace hq := hq e107
    refine x_goto (tgt := 386) dX9_data_359 (by decide) ?_
    refine xP.pick (lv' := []) [] rfl ?_
    exact uX9_data_386 hq
  replace hq := hq.2
  by_cases c108 : x1 = 9
  · replace hq := hq.1 c108
    refine x_tin (tgt := 362) (off := 340) 9 c108 dX9_data_22 (by decide) (by decide) (by decide) (by decide) ?_
    refine x_aload_n 2 dX9_data_362 rfl ?_
    refine x_aload_n 2 dX9_data_363 rfl ?_
    refine x_get (v := rv (fR h x0 2304)) fdX9_75 dX9_data_364 g1 rfl ?_
    refine x_getN (v := rv (fR h (fR h x0 2304) 516)) gfX9_222 dX9_data_367 g2 rfl ?_
    refine x_iload_n 4 dX9_data_370 rfl ?_
    obtain ⟨g109, hq⟩ := hq
    obtain ⟨i110, hq⟩ := hq
    refine x_iald 0 (Or.inl rfl) g109 i110 dX9_data_371 ?_
    obtain ⟨g111, g112, hq⟩ := hq
    refine x_callV (Yc := YX9_loads) (as := [.int (aI h (fR h (fR h x0 2304) 516) (Int32.toNatClampNeg x2))]) (st := []) q2917 mvX9_loads g1 rfl dX9_data_372 (xle (xal1 (rv_cat _) (xal1 rfl xal0)) (by decide)) (xfr g111) (xlo xsw0 (by decide) g112) (xKv hq (fun h113 hq e115 => ?_) (fun _ _ q _ => q))
    replace hq := hq e115
    refine x_goto (tgt := 386) dX9_data_375 (by decide) ?_
    refine xP.pick (lv' := []) [] rfl ?_
    exact uX9_data_386 hq
  replace hq := hq.2
  by_cases c116 : x1 = 10
  · replace hq := hq.1 c116
    refine x_tin (tgt := 362) (off := 340) 10 c116 dX9_data_22 (by decide) (by decide) (by decide) (by decide) ?_
    refine x_aload_n 2 dX9_data_362 rfl ?_
    refine x_aload_n 2 dX9_data_363 rfl ?_
    refine x_get (v := rv (fR h x0 2304)) fdX9_75 dX9_data_364 g1 rfl ?_
    refine x_getN (v := rv (fR h (fR h x0 2304) 516)) gfX9_222 dX9_data_367 g2 rfl ?_
    refine x_iload_n 4 dX9_data_370 rfl ?_
    obtain ⟨g117, hq⟩ := hq
    obtain ⟨i118, hq⟩ := hq
    refine x_iald 0 (Or.inl rfl) g117 i118 dX9_data_371 ?_
    obtain ⟨g119, g120, hq⟩ := hq
    refine x_callV (Yc := YX9_loads) (as := [.int (aI h (fR h (fR h x0 2304) 516) (Int32.toNatClampNeg x2))]) (st := []) q2917 mvX9_loads g1 rfl dX9_data_372 (xle (xal1 (rv_cat _) (xal1 rfl xal0)) (by decide)) (xfr g119) (xlo xsw0 (by decide) g120) (xKv hq (fun h121 hq e123 => ?_) (fun _ _ q _ => q))
    replace hq := hq e123
    refine x_goto (tgt := 386) dX9_data_375 (by decide) ?_
    refine xP.pick (lv' := []) [] rfl ?_
    exact uX9_data_386 hq
  replace hq := hq.2
  by_cases c124 : x1 = 11
  · replace hq := hq.1 c124
    refine x_tin (tgt := 362) (off := 340) 11 c124 dX9_data_22 (by decide) (by decide) (by decide) (by decide) ?_
    refine x_aload_n 2 dX9_data_362 rfl ?_
    refine x_aload_n 2 dX9_data_363 rfl ?_
    refine x_get (v := rv (fR h x0 2304)) fdX9_75 dX9_data_364 g1 rfl ?_
    refine x_getN (v := rv (fR h (fR h x0 2304) 516)) gfX9_222 dX9_data_367 g2 rfl ?_
    refine x_iload_n 4 dX9_data_370 rfl ?_
    obtain ⟨g125, hq⟩ := hq
    obtain ⟨i126, hq⟩ := hq
    refine x_iald 0 (Or.inl rfl) g125 i126 dX9_data_371 ?_
    obtain ⟨g127, g128, hq⟩ := hq
    refine x_callV (Yc := YX9_loads) (as := [.int (aI h (fR h (fR h x0 2304) 516) (Int32.toNatClampNeg x2))]) (st := []) q2917 mvX9_loads g1 rfl dX9_data_372 (xle (xal1 (rv_cat _) (xal1 rfl xal0)) (by decide)) (xfr g127) (xlo xsw0 (by decide) g128) (xKv hq (fun h129 hq e131 => ?_) (fun _ _ q _ => q))
    replace hq := hq e131
    refine x_goto (tgt := 386) dX9_data_375 (by decide) ?_
    refine xP.pick (lv' := []) [] rfl ?_
    exact uX9_data_386 hq
  replace hq := hq.2
  by_cases c132 : x1 = 12
  · replace hq := hq.1 c132
    refine x_tin (tgt := 378) (off := 356) 12 c132 dX9_data_22 (by decide) (by decide) (by decide) (by decide) ?_
    refine x_aload_n 2 dX9_data_378 rfl ?_
    refine x_iload_n 3 dX9_data_379 rfl ?_
    refine x_iload_n 1 dX9_data_380 rfl ?_
    refine x_iload 0 dX9_data_381 rfl ?_
    obtain ⟨g133, g134, hq⟩ := hq
    refine x_callV (Yc := YX9_stores) (as := [.int x1, .int (aI h (fR h (fR h x0 2304) 513) (Int32.toNatClampNeg x2)), .int (aI h (fR h (fR h x0 2304) 514) (Int32.toNatClampNeg x2))]) (st := []) q2921 mvX9_stores g1 rfl dX9_data_383 (xle (xal1 (rv_cat _) (xal1 rfl (xal1 rfl (xal1 rfl xal0)))) (by decide)) (xfr g133) (xlo xsw0 (by decide) g134) (xKv hq (fun h135 hq e137 => ?_) (fun _ _ q _ => q))
    replace hq := hq e137
    refine xP.pick (lv' := []) [] rfl ?_
    exact uX9_data_386 hq
  replace hq := hq.2
  by_cases c138 : x1 = 13
  · replace hq := hq.1 c138
    refine x_tin (tgt := 378) (off := 356) 13 c138 dX9_data_22 (by decide) (by decide) (by decide) (by decide) ?_
    refine x_aload_n 2 dX9_data_378 rfl ?_
    refine x_iload_n 3 dX9_data_379 rfl ?_
    refine x_iload_n 1 dX9_data_380 rfl ?_
    refine x_iload 0 dX9_data_381 rfl ?_
    obtain ⟨g139, g140, hq⟩ := hq
    refine x_callV (Yc := YX9_stores) (as := [.int x1, .int (aI h (fR h (fR h x0 2304) 513) (Int32.toNatClampNeg x2)), .int (aI h (fR h (fR h x0 2304) 514) (Int32.toNatClampNeg x2))]) (st := []) q2921 mvX9_stores g1 rfl dX9_data_383 (xle (xal1 (rv_cat _) (xal1 rfl (xal1 rfl (xal1 rfl xal0)))) (by decide)) (xfr g139) (xlo xsw0 (by decide) g140) (xKv hq (fun h141 hq e143 => ?_) (fun _ _ q _ => q))
    replace hq := hq e143
    refine xP.pick (lv' := []) [] rfl ?_
    exact uX9_data_386 hq
  replace hq := hq.2
  by_cases c144 : x1 = 14
  · replace hq := hq.1 c144
    refine x_tin (tgt := 378) (off := 356) 14 c144 dX9_data_22 (by decide) (by decide) (by decide) (by decide) ?_
    refine x_aload_n 2 dX9_data_378 rfl ?_
    refine x_iload_n 3 dX9_data_379 rfl ?_
    refine x_iload_n 1 dX9_data_380 rfl ?_
    refine x_iload 0 dX9_data_381 rfl ?_
    obtain ⟨g145, g146, hq⟩ := hq
    refine x_callV (Yc := YX9_stores) (as := [.int x1, .int (aI h (fR h (fR h x0 2304) 513) (Int32.toNatClampNeg x2)), .int (aI h (fR h (fR h x0 2304) 514) (Int32.toNatClampNeg x2))]) (st := []) q2921 mvX9_stores g1 rfl dX9_data_383 (xle (xal1 (rv_cat _) (xal1 rfl (xal1 rfl (xal1 rfl xal0)))) (by decide)) (xfr g145) (xlo xsw0 (by decide) g146) (xKv hq (fun h147 hq e149 => ?_) (fun _ _ q _ => q))
    replace hq := hq e149
    refine xP.pick (lv' := []) [] rfl ?_
    exact uX9_data_386 hq
  replace hq := hq.2
  by_cases c150 : x1 = 15
  · replace hq := hq.1 c150
    refine x_tin (tgt := 378) (off := 356) 15 c150 dX9_data_22 (by decide) (by decide) (by decide) (by decide) ?_
    refine x_aload_n 2 dX9_data_378 rfl ?_
    refine x_iload_n 3 dX9_data_379 rfl ?_
    refine x_iload_n 1 dX9_data_380 rfl ?_
    refine x_iload 0 dX9_data_381 rfl ?_
    obtain ⟨g151, g152, hq⟩ := hq
    refine x_callV (Yc := YX9_stores) (as := [.int x1, .int (aI h (fR h (fR h x0 2304) 513) (Int32.toNatClampNeg x2)), .int (aI h (fR h (fR h x0 2304) 514) (Int32.toNatClampNeg x2))]) (st := []) q2921 mvX9_stores g1 rfl dX9_data_383 (xle (xal1 (rv_cat _) (xal1 rfl (xal1 rfl (xal1 rfl xal0)))) (by decide)) (xfr g151) (xlo xsw0 (by decide) g152) (xKv hq (fun h153 hq e155 => ?_) (fun _ _ q _ => q))
    replace hq := hq e155
    refine xP.pick (lv' := []) [] rfl ?_
    exact uX9_data_386 hq
  replace hq := hq.2
  by_cases c156 : x1 = 16
  · replace hq := hq.1 c156
    refine x_tin (tgt := 378) (off := 356) 16 c156 dX9_data_22 (by decide) (by decide) (by decide) (by decide) ?_
    refine x_aload_n 2 dX9_data_378 rfl ?_
    refine x_iload_n 3 dX9_data_379 rfl ?_
    refine x_iload_n 1 dX9_data_380 rfl ?_
    refine x_iload 0 dX9_data_381 rfl ?_
    obtain ⟨g157, g158, hq⟩ := hq
    refine x_callV (Yc := YX9_stores) (as := [.int x1, .int (aI h (fR h (fR h x0 2304) 513) (Int32.toNatClampNeg x2)), .int (aI h (fR h (fR h x0 2304) 514) (Int32.toNatClampNeg x2))]) (st := []) q2921 mvX9_stores g1 rfl dX9_data_383 (xle (xal1 (rv_cat _) (xal1 rfl (xal1 rfl (xal1 rfl xal0)))) (by decide)) (xfr g157) (xlo xsw0 (by decide) g158) (xKv hq (fun h159 hq e161 => ?_) (fun _ _ q _ => q))
    replace hq := hq e161
    refine xP.pick (lv' := []) [] rfl ?_
    exact uX9_data_386 hq
  replace hq := hq.2
  by_cases c162 : x1 = 17
  · replace hq := hq.1 c162
    refine x_tin (tgt := 362) (off := 340) 17 c162 dX9_data_22 (by decide) (by decide) (by decide) (by decide) ?_
    refine x_aload_n 2 dX9_data_362 rfl ?_
    refine x_aload_n 2 dX9_data_363 rfl ?_
    refine x_get (v := rv (fR h x0 2304)) fdX9_75 dX9_data_364 g1 rfl ?_
    refine x_getN (v := rv (fR h (fR h x0 2304) 516)) gfX9_222 dX9_data_367 g2 rfl ?_
    refine x_iload_n 4 dX9_data_370 rfl ?_
    obtain ⟨g163, hq⟩ := hq
    obtain ⟨i164, hq⟩ := hq
    refine x_iald 0 (Or.inl rfl) g163 i164 dX9_data_371 ?_
    obtain ⟨g165, g166, hq⟩ := hq
    refine x_callV (Yc := YX9_loads) (as := [.int (aI h (fR h (fR h x0 2304) 516) (Int32.toNatClampNeg x2))]) (st := []) q2917 mvX9_loads g1 rfl dX9_data_372 (xle (xal1 (rv_cat _) (xal1 rfl xal0)) (by decide)) (xfr g165) (xlo xsw0 (by decide) g166) (xKv hq (fun h167 hq e169 => ?_) (fun _ _ q _ => q))
    replace hq := hq e169
    refine x_goto (tgt := 386) dX9_data_375 (by decide) ?_
    refine xP.pick (lv' := []) [] rfl ?_
    exact uX9_data_386 hq
  replace hq := hq.2
  by_cases c170 : x1 = 18
  · replace hq := hq.1 c170
    refine x_tin (tgt := 378) (off := 356) 18 c170 dX9_data_22 (by decide) (by decide) (by decide) (by decide) ?_
    refine x_aload_n 2 dX9_data_378 rfl ?_
    refine x_iload_n 3 dX9_data_379 rfl ?_
    refine x_iload_n 1 dX9_data_380 rfl ?_
    refine x_iload 0 dX9_data_381 rfl ?_
    obtain ⟨g171, g172, hq⟩ := hq
    refine x_callV (Yc := YX9_stores) (as := [.int x1, .int (aI h (fR h (fR h x0 2304) 513) (Int32.toNatClampNeg x2)), .int (aI h (fR h (fR h x0 2304) 514) (Int32.toNatClampNeg x2))]) (st := []) q2921 mvX9_stores g1 rfl dX9_data_383 (xle (xal1 (rv_cat _) (xal1 rfl (xal1 rfl (xal1 rfl xal0)))) (by decide)) (xfr g171) (xlo xsw0 (by decide) g172) (xKv hq (fun h173 hq e175 => ?_) (fun _ _ q _ => q))
    replace hq := hq e175
    refine xP.pick (lv' := []) [] rfl ?_
    exact uX9_data_386 hq
  replace hq := hq.2
  by_cases c176 : x1 = 19
  · replace hq := hq.1 c176
    refine x_tin (tgt := 125) (off := 103) 19 c176 dX9_data_22 (by decide) (by decide) (by decide) (by decide) ?_
    refine x_aload_n 2 dX9_data_125 rfl ?_
    refine x_lconst (v := 0) dX9_data_126 (by decide) ?_
    obtain ⟨g177, g178, hq⟩ := hq
    refine x_callV (Yc := YX9_push) (as := [.long 0]) (st := []) q2891 mvX9_push g1 rfl dX9_data_127 (xle (xal1 (rv_cat _) (xal2 rfl xal0)) (by decide)) (xfr g177) (xlo xsw0 (by decide) g178) (xKv hq (fun h179 hq e181 => ?_) (fun _ _ q _ => q))
    replace hq := hq e181
    refine x_aload_n 2 dX9_data_130 rfl ?_
    have t182 : tg h179 x0 = 10 := e181.tg g1 (by decide)
    refine x_get (v := rv (fR h179 x0 2308)) fdX9_32 dX9_data_131 t182 rfl ?_
    refine x_aload_n 2 dX9_data_134 rfl ?_
    refine x_get (v := .int (fI h179 x0 2310)) fdX9_86 dX9_data_135 t182 rfl ?_
    refine x_iconst (v := 1) dX9_data_138 (by decide) ?_
    refine x_isub dX9_data_139 ?_
    refine x_lconst (v := 0) dX9_data_140 (by decide) ?_
    obtain ⟨g183, hq⟩ := hq
    obtain ⟨i184, hq⟩ := hq
    obtain ⟨h185, e186⟩ : ∃ y, y = tJ h179 (fR h179 x0 2308) (Int32.toNatClampNeg ((fI h179 x0 2310) - 1)) 0 := ⟨_, rfl⟩
    replace hq := hq h185 e186
    refine x_last' g183 i184 dX9_data_141 e186 ?_
    refine x_goto (tgt := 386) dX9_data_142 (by decide) ?_
    refine xP.pick (lv' := []) [] rfl ?_
    exact uX9_data_386 hq
  replace hq := hq.2
  replace hq := hq c7 c13 c23 c37 c54 c60 c77 c85 c91 c108 c116 c124 c132 c138 c144 c150 c156 c162 c170 c176
  have nc7 := lv_neT c7 (show (0 : Int32).toInt = 0 from by decide)
  have nc13 := lv_neT c13 (show (1 : Int32).toInt = 1 from by decide)
  have nc23 := lv_neT c23 (show (2 : Int32).toInt = 2 from by decide)
  have nc37 := lv_neT c37 (show (3 : Int32).toInt = 3 from by decide)
  have nc54 := lv_neT c54 (show (4 : Int32).toInt = 4 from by decide)
  have nc60 := lv_neT c60 (show (5 : Int32).toInt = 5 from by decide)
  have nc77 := lv_neT c77 (show (6 : Int32).toInt = 6 from by decide)
  have nc85 := lv_neT c85 (show (7 : Int32).toInt = 7 from by decide)
  have nc91 := lv_neT c91 (show (8 : Int32).toInt = 8 from by decide)
  have nc108 := lv_neT c108 (show (9 : Int32).toInt = 9 from by decide)
  have nc116 := lv_neT c116 (show (10 : Int32).toInt = 10 from by decide)
  have nc124 := lv_neT c124 (show (11 : Int32).toInt = 11 from by decide)
  have nc132 := lv_neT c132 (show (12 : Int32).toInt = 12 from by decide)
  have nc138 := lv_neT c138 (show (13 : Int32).toInt = 13 from by decide)
  have nc144 := lv_neT c144 (show (14 : Int32).toInt = 14 from by decide)
  have nc150 := lv_neT c150 (show (15 : Int32).toInt = 15 from by decide)
  have nc156 := lv_neT c156 (show (16 : Int32).toInt = 16 from by decide)
  have nc162 := lv_neT c162 (show (17 : Int32).toInt = 17 from by decide)
  have nc170 := lv_neT c170 (show (18 : Int32).toInt = 18 from by decide)
  have nc176 := lv_neT c176 (show (19 : Int32).toInt = 19 from by decide)
  refine x_tout (tgt := 378) dX9_data_22 (by omega) (by decide) ?_
  refine x_aload_n 2 dX9_data_378 rfl ?_
  refine x_iload_n 3 dX9_data_379 rfl ?_
  refine x_iload_n 1 dX9_data_380 rfl ?_
  refine x_iload 0 dX9_data_381 rfl ?_
  obtain ⟨g187, g188, hq⟩ := hq
  refine x_callV (Yc := YX9_stores) (as := [.int x1, .int (aI h (fR h (fR h x0 2304) 513) (Int32.toNatClampNeg x2)), .int (aI h (fR h (fR h x0 2304) 514) (Int32.toNatClampNeg x2))]) (st := []) q2921 mvX9_stores g1 rfl dX9_data_383 (xle (xal1 (rv_cat _) (xal1 rfl (xal1 rfl (xal1 rfl xal0)))) (by decide)) (xfr g187) (xlo xsw0 (by decide) g188) (xKv hq (fun h189 hq e191 => ?_) (fun _ _ q _ => q))
  replace hq := hq e191
  refine xP.pick (lv' := []) [] rfl ?_
  exact uX9_data_386 hq
theorem rX9_data {G : xG} {fr lo : Nat} {x0 : Nat} {x1 : Int32} {x2 : Int32} {h : xH} {Q : Outcome → xH → Prop} (hq : bX9_data G fr lo x0 x1 x2 h Q) : xR G YX9_data fr lo [rv x0, .int x1, .int x2] h Q := by
  show xP _ _ _ _ _ (lv_args 0 _) _ _ _
  rw [show lv_args 0 [rv x0, .int x1, .int x2] = [(0, rv x0), (1, .int x1), (2, .int x2)] from (xla1 (rv_cat _) (xla1 rfl (xla1 rfl xla0)))]
  exact uX9_data hq
set_option maxRecDepth 100000 in
theorem dX9_push_0 : decode cX9_push 0 = .ok (.aload_n 0, 1) := by decide +kernel
set_option maxRecDepth 100000 in
theorem dX9_push_1 : decode cX9_push 1 = .ok (.getfield 28, 3) := by decide +kernel
set_option maxRecDepth 100000 in
theorem dX9_push_4 : decode cX9_push 4 = .ok (.aload_n 0, 1) := by decide +kernel
set_option maxRecDepth 100000 in
theorem dX9_push_5 : decode cX9_push 5 = .ok (.getfield 86, 3) := by decide +kernel
set_option maxRecDepth 100000 in
theorem dX9_push_8 : decode cX9_push 8 = .ok (.lload_n 1, 1) := by decide +kernel
set_option maxRecDepth 100000 in
theorem dX9_push_9 : decode cX9_push 9 = .ok (.lastore, 1) := by decide +kernel
set_option maxRecDepth 100000 in
theorem dX9_push_10 : decode cX9_push 10 = .ok (.aload_n 0, 1) := by decide +kernel
set_option maxRecDepth 100000 in
theorem dX9_push_11 : decode cX9_push 11 = .ok (.dup, 1) := by decide +kernel
set_option maxRecDepth 100000 in
theorem dX9_push_12 : decode cX9_push 12 = .ok (.getfield 86, 3) := by decide +kernel
set_option maxRecDepth 100000 in
theorem dX9_push_15 : decode cX9_push 15 = .ok (.iconst 1, 1) := by decide +kernel
set_option maxRecDepth 100000 in
theorem dX9_push_16 : decode cX9_push 16 = .ok (.iadd, 1) := by decide +kernel
set_option maxRecDepth 100000 in
theorem dX9_push_17 : decode cX9_push 17 = .ok (.putfield 86, 3) := by decide +kernel
set_option maxRecDepth 100000 in
theorem dX9_push_20 : decode cX9_push 20 = .ok (.return_, 1) := by decide +kernel
set_option maxRecDepth 100000 in
def bX9_push (G : xG) (fr lo : Nat) (x0 : Nat) (x1 : Int64) (h : xH) (Q : Outcome → xH → Prop) : Prop := tg h x0 = 10 ∧ tg h (fR h x0 2307) = 101 ∧ vp_in (fI h x0 2310) (ln h (fR h x0 2307)) ∧ (∀ h4 : xH, h4 = tJ h (fR h x0 2307) (Int32.toNatClampNeg (fI h x0 2310)) x1 → (∀ h7 : xH, h7 = sI h4 x0 2310 ((fI h4 x0 2310) + 1) → Q (.returned none) h7))
set_option maxRecDepth 100000 in
theorem uX9_push {G : xG} {fr lo : Nat} {x0 : Nat} {x1 : Int64} {h : xH} {Q : Outcome → xH → Prop} (hq : bX9_push G fr lo x0 x1 h Q) : xP G YX9_push fr lo 0 [(0, rv x0), (1, .long x1)] [] h Q := by
  unfold bX9_push at hq
  refine x_aload_n 0 dX9_push_0 rfl ?_
  obtain ⟨g1, hq⟩ := hq
  refine x_get (v := rv (fR h x0 2307)) fdX9_28 dX9_push_1 g1 rfl ?_
  refine x_aload_n 0 dX9_push_4 rfl ?_
  refine x_get (v := .int (fI h x0 2310)) fdX9_86 dX9_push_5 g1 rfl ?_
  refine x_lload_n 1 dX9_push_8 rfl ?_
  obtain ⟨g2, hq⟩ := hq
  obtain ⟨i3, hq⟩ := hq
  obtain ⟨h4, e5⟩ : ∃ y, y = tJ h (fR h x0 2307) (Int32.toNatClampNeg (fI h x0 2310)) x1 := ⟨_, rfl⟩
  replace hq := hq h4 e5
  refine x_last' g2 i3 dX9_push_9 e5 ?_
  refine x_aload_n 0 dX9_push_10 rfl ?_
  refine x_dup dX9_push_11 (rv_cat _) ?_
  have t6 : tg h4 x0 = 10 := by rw [e5]; exact g1
  refine x_get (v := .int (fI h4 x0 2310)) fdX9_86 dX9_push_12 t6 rfl ?_
  refine x_iconst (v := 1) dX9_push_15 (by decide) ?_
  refine x_iadd dX9_push_16 ?_
  obtain ⟨h7, e8⟩ : ∃ y, y = sI h4 x0 2310 ((fI h4 x0 2310) + 1) := ⟨_, rfl⟩
  replace hq := hq h7 e8
  refine x_putI fdX9_86 xty_I1 dX9_push_17 t6 (Or.inl (by rw [t6]; rfl)) xnI rfl e8 ?_
  exact x_vret rfl dX9_push_20 hq
theorem rX9_push {G : xG} {fr lo : Nat} {x0 : Nat} {x1 : Int64} {h : xH} {Q : Outcome → xH → Prop} (hq : bX9_push G fr lo x0 x1 h Q) : xR G YX9_push fr lo [rv x0, .long x1] h Q := by
  show xP _ _ _ _ _ (lv_args 0 _) _ _ _
  rw [show lv_args 0 [rv x0, .long x1] = [(0, rv x0), (1, .long x1)] from (xla1 (rv_cat _) (xla2 rfl xla0))]
  exact uX9_push hq
set_option maxRecDepth 100000 in
theorem dX9_frameAbove_0 : decode cX9_frameAbove 0 = .ok (.aload_n 0, 1) := by decide +kernel
set_option maxRecDepth 100000 in
theorem dX9_frameAbove_1 : decode cX9_frameAbove 1 = .ok (.getfield 89, 3) := by decide +kernel
set_option maxRecDepth 100000 in
theorem dX9_frameAbove_4 : decode cX9_frameAbove 4 = .ok (.istore_n 2, 1) := by decide +kernel
set_option maxRecDepth 100000 in
theorem dX9_frameAbove_5 : decode cX9_frameAbove 5 = .ok (.iconst 0, 1) := by decide +kernel
set_option maxRecDepth 100000 in
theorem dX9_frameAbove_6 : decode cX9_frameAbove 6 = .ok (.istore_n 3, 1) := by decide +kernel
set_option maxRecDepth 100000 in
theorem dX9_frameAbove_7 : decode cX9_frameAbove 7 = .ok (.iload_n 3, 1) := by decide +kernel
set_option maxRecDepth 100000 in
theorem dX9_frameAbove_8 : decode cX9_frameAbove 8 = .ok (.iload_n 1, 1) := by decide +kernel
set_option maxRecDepth 100000 in
theorem dX9_frameAbove_9 : decode cX9_frameAbove 9 = .ok (.if_icmp .ge 16, 3) := by decide +kernel
set_option maxRecDepth 100000 in
theorem dX9_frameAbove_12 : decode cX9_frameAbove 12 = .ok (.aload_n 0, 1) := by decide +kernel
set_option maxRecDepth 100000 in
theorem dX9_frameAbove_13 : decode cX9_frameAbove 13 = .ok (.getfield 43, 3) := by decide +kernel
set_option maxRecDepth 100000 in
theorem dX9_frameAbove_16 : decode cX9_frameAbove 16 = .ok (.iload_n 2, 1) := by decide +kernel
set_option maxRecDepth 100000 in
theorem dX9_frameAbove_17 : decode cX9_frameAbove 17 = .ok (.iaload, 1) := by decide +kernel
set_option maxRecDepth 100000 in
theorem dX9_frameAbove_18 : decode cX9_frameAbove 18 = .ok (.istore_n 2, 1) := by decide +kernel
set_option maxRecDepth 100000 in
theorem dX9_frameAbove_19 : decode cX9_frameAbove 19 = .ok (.iinc 3 1, 3) := by decide +kernel
set_option maxRecDepth 100000 in
theorem dX9_frameAbove_22 : decode cX9_frameAbove 22 = .ok (.goto (-15), 3) := by decide +kernel
set_option maxRecDepth 100000 in
theorem dX9_frameAbove_25 : decode cX9_frameAbove 25 = .ok (.iload_n 2, 1) := by decide +kernel
set_option maxRecDepth 100000 in
theorem dX9_frameAbove_26 : decode cX9_frameAbove 26 = .ok (.ireturn, 1) := by decide +kernel
def lX9_frameAbove_7 (G : xG) (fr lo : Nat) (x0 : Nat) (x1 : Int32) (x2 : Int32) (x3 : Int32) (h : xH) (Q : Outcome → xH → Prop) : Prop := xP G YX9_frameAbove fr lo 7 [(0, rv x0), (1, .int x1), (2, .int x2), (3, .int x3)] [] h Q
set_option maxRecDepth 100000 in
def bX9_frameAbove_7 (G : xG) (fr lo : Nat) (x0 : Nat) (x1 : Int32) (x2 : Int32) (x3 : Int32) (h : xH) (Q : Outcome → xH → Prop) : Prop := ((x1 ≤ x3 → Q (.returned (some (.int x2))) h) ∧ (¬ x1 ≤ x3 → tg h x0 = 10 ∧ tg h (fR h x0 2313) = 100 ∧ vp_in x2 (ln h (fR h x0 2313)) ∧ lX9_frameAbove_7 G fr lo x0 x1 (aI h (fR h x0 2313) (Int32.toNatClampNeg x2)) (x3 + 1) h Q))
set_option maxRecDepth 100000 in
theorem uX9_frameAbove_7 {G : xG} {fr lo : Nat} {x0 : Nat} {x1 : Int32} {x2 : Int32} {x3 : Int32} {h : xH} {Q : Outcome → xH → Prop} (hq : bX9_frameAbove_7 G fr lo x0 x1 x2 x3 h Q) : xP G YX9_frameAbove fr lo 7 [(0, rv x0), (1, .int x1), (2, .int x2), (3, .int x3)] [] h Q := by
  unfold bX9_frameAbove_7 at hq
  refine x_iload_n 3 dX9_frameAbove_7 rfl ?_
  refine x_iload_n 1 dX9_frameAbove_8 rfl ?_
  refine x_icmp_ge (tgt := 25) dX9_frameAbove_9 (by decide) (fun c1 => ?_) (fun c1 => ?_)
  · replace hq := hq.1 c1
    refine x_iload_n 2 dX9_frameAbove_25 rfl ?_
    exact x_iret rfl rfl dX9_frameAbove_26 hq
  · replace hq := hq.2 c1
    refine x_aload_n 0 dX9_frameAbove_12 rfl ?_
    obtain ⟨g2, hq⟩ := hq
    refine x_get (v := rv (fR h x0 2313)) fdX9_43 dX9_frameAbove_13 g2 rfl ?_
    refine x_iload_n 2 dX9_frameAbove_16 rfl ?_
    obtain ⟨g3, hq⟩ := hq
    obtain ⟨i4, hq⟩ := hq
    refine x_iald 0 (Or.inl rfl) g3 i4 dX9_frameAbove_17 ?_
    refine x_istore_n (lv' := [(2, .int (aI h (fR h x0 2313) (Int32.toNatClampNeg x2))), (0, rv x0), (1, .int x1), (3, .int x3)]) dX9_frameAbove_18 (by decide) rfl ?_
    refine x_iinc (lv' := [(3, .int (x3 + 1)), (2, .int (aI h (fR h x0 2313) (Int32.toNatClampNeg x2))), (0, rv x0), (1, .int x1)]) 3 dX9_frameAbove_19 rfl (by decide) rfl ?_
    refine x_goto (tgt := 7) dX9_frameAbove_22 (by decide) ?_
    refine xP.pick (lv' := [(0, rv x0), (1, .int x1), (2, .int (aI h (fR h x0 2313) (Int32.toNatClampNeg x2))), (3, .int (x3 + 1))]) [2, 3, 1, 0] rfl ?_
    exact hq
set_option maxRecDepth 100000 in
def bX9_frameAbove (G : xG) (fr lo : Nat) (x0 : Nat) (x1 : Int32) (h : xH) (Q : Outcome → xH → Prop) : Prop := tg h x0 = 10 ∧ lX9_frameAbove_7 G fr lo x0 x1 (fI h x0 2319) 0 h Q
set_option maxRecDepth 100000 in
theorem uX9_frameAbove {G : xG} {fr lo : Nat} {x0 : Nat} {x1 : Int32} {h : xH} {Q : Outcome → xH → Prop} (hq : bX9_frameAbove G fr lo x0 x1 h Q) : xP G YX9_frameAbove fr lo 0 [(0, rv x0), (1, .int x1)] [] h Q := by
  unfold bX9_frameAbove at hq
  refine x_aload_n 0 dX9_frameAbove_0 rfl ?_
  obtain ⟨g1, hq⟩ := hq
  refine x_get (v := .int (fI h x0 2319)) fdX9_89 dX9_frameAbove_1 g1 rfl ?_
  refine x_istore_n (lv' := [(2, .int (fI h x0 2319)), (0, rv x0), (1, .int x1)]) dX9_frameAbove_4 (by decide) rfl ?_
  refine x_iconst (v := 0) dX9_frameAbove_5 (by decide) ?_
  refine x_istore_n (lv' := [(3, .int 0), (2, .int (fI h x0 2319)), (0, rv x0), (1, .int x1)]) dX9_frameAbove_6 (by decide) rfl ?_
  refine xP.pick (lv' := [(0, rv x0), (1, .int x1), (2, .int (fI h x0 2319)), (3, .int 0)]) [2, 3, 1, 0] rfl ?_
  exact hq
theorem rX9_frameAbove {G : xG} {fr lo : Nat} {x0 : Nat} {x1 : Int32} {h : xH} {Q : Outcome → xH → Prop} (hq : bX9_frameAbove G fr lo x0 x1 h Q) : xR G YX9_frameAbove fr lo [rv x0, .int x1] h Q := by
  show xP _ _ _ _ _ (lv_args 0 _) _ _ _
  rw [show lv_args 0 [rv x0, .int x1] = [(0, rv x0), (1, .int x1)] from (xla1 (rv_cat _) (xla1 rfl xla0))]
  exact uX9_frameAbove hq
set_option maxRecDepth 100000 in
theorem dX9_pop_0 : decode cX9_pop 0 = .ok (.aload_n 0, 1) := by decide +kernel
set_option maxRecDepth 100000 in
theorem dX9_pop_1 : decode cX9_pop 1 = .ok (.dup, 1) := by decide +kernel
set_option maxRecDepth 100000 in
theorem dX9_pop_2 : decode cX9_pop 2 = .ok (.getfield 86, 3) := by decide +kernel
set_option maxRecDepth 100000 in
theorem dX9_pop_5 : decode cX9_pop 5 = .ok (.iconst 1, 1) := by decide +kernel
set_option maxRecDepth 100000 in
theorem dX9_pop_6 : decode cX9_pop 6 = .ok (.isub, 1) := by decide +kernel
set_option maxRecDepth 100000 in
theorem dX9_pop_7 : decode cX9_pop 7 = .ok (.putfield 86, 3) := by decide +kernel
set_option maxRecDepth 100000 in
theorem dX9_pop_10 : decode cX9_pop 10 = .ok (.aload_n 0, 1) := by decide +kernel
set_option maxRecDepth 100000 in
theorem dX9_pop_11 : decode cX9_pop 11 = .ok (.getfield 28, 3) := by decide +kernel
set_option maxRecDepth 100000 in
theorem dX9_pop_14 : decode cX9_pop 14 = .ok (.aload_n 0, 1) := by decide +kernel
set_option maxRecDepth 100000 in
theorem dX9_pop_15 : decode cX9_pop 15 = .ok (.getfield 86, 3) := by decide +kernel
set_option maxRecDepth 100000 in
theorem dX9_pop_18 : decode cX9_pop 18 = .ok (.laload, 1) := by decide +kernel
set_option maxRecDepth 100000 in
theorem dX9_pop_19 : decode cX9_pop 19 = .ok (.l2i, 1) := by decide +kernel
set_option maxRecDepth 100000 in
theorem dX9_pop_20 : decode cX9_pop 20 = .ok (.ireturn, 1) := by decide +kernel
set_option maxRecDepth 100000 in
def bX9_pop (G : xG) (fr lo : Nat) (x0 : Nat) (h : xH) (Q : Outcome → xH → Prop) : Prop := tg h x0 = 10 ∧ (∀ h2 : xH, h2 = sI h x0 2310 ((fI h x0 2310) - 1) → tg h2 (fR h2 x0 2307) = 101 ∧ vp_in (fI h2 x0 2310) (ln h2 (fR h2 x0 2307)) ∧ Q (.returned (some (.int (Int64.toInt32 (aJ h2 (fR h2 x0 2307) (Int32.toNatClampNeg (fI h2 x0 2310))))))) h2)
set_option maxRecDepth 100000 in
theorem uX9_pop {G : xG} {fr lo : Nat} {x0 : Nat} {h : xH} {Q : Outcome → xH → Prop} (hq : bX9_pop G fr lo x0 h Q) : xP G YX9_pop fr lo 0 [(0, rv x0)] [] h Q := by
  unfold bX9_pop at hq
  refine x_aload_n 0 dX9_pop_0 rfl ?_
  refine x_dup dX9_pop_1 (rv_cat _) ?_
  obtain ⟨g1, hq⟩ := hq
  refine x_get (v := .int (fI h x0 2310)) fdX9_86 dX9_pop_2 g1 rfl ?_
  refine x_iconst (v := 1) dX9_pop_5 (by decide) ?_
  refine x_isub dX9_pop_6 ?_
  obtain ⟨h2, e3⟩ : ∃ y, y = sI h x0 2310 ((fI h x0 2310) - 1) := ⟨_, rfl⟩
  replace hq := hq h2 e3
  refine x_putI fdX9_86 xty_I1 dX9_pop_7 g1 (Or.inl (by rw [g1]; rfl)) xnI rfl e3 ?_
  refine x_aload_n 0 dX9_pop_10 rfl ?_
  have t4 : tg h2 x0 = 10 := by rw [e3]; exact g1
  refine x_get (v := rv (fR h2 x0 2307)) fdX9_28 dX9_pop_11 t4 rfl ?_
  refine x_aload_n 0 dX9_pop_14 rfl ?_
  refine x_get (v := .int (fI h2 x0 2310)) fdX9_86 dX9_pop_15 t4 rfl ?_
  obtain ⟨g5, hq⟩ := hq
  obtain ⟨i6, hq⟩ := hq
  refine x_lald g5 i6 dX9_pop_18 ?_
  refine x_l2i dX9_pop_19 ?_
  exact x_iret rfl rfl dX9_pop_20 hq
theorem rX9_pop {G : xG} {fr lo : Nat} {x0 : Nat} {h : xH} {Q : Outcome → xH → Prop} (hq : bX9_pop G fr lo x0 h Q) : xR G YX9_pop fr lo [rv x0] h Q := by
  show xP _ _ _ _ _ (lv_args 0 _) _ _ _
  rw [show lv_args 0 [rv x0] = [(0, rv x0)] from (xla1 (rv_cat _) xla0)]
  exact uX9_pop hq
set_option maxRecDepth 100000 in
theorem dX9_points_0 : decode cX9_points 0 = .ok (.aload_n 0, 1) := by decide +kernel
set_option maxRecDepth 100000 in
theorem dX9_points_1 : decode cX9_points 1 = .ok (.getfield 28, 3) := by decide +kernel
set_option maxRecDepth 100000 in
theorem dX9_points_4 : decode cX9_points 4 = .ok (.aload_n 0, 1) := by decide +kernel
set_option maxRecDepth 100000 in
theorem dX9_points_5 : decode cX9_points 5 = .ok (.getfield 86, 3) := by decide +kernel
set_option maxRecDepth 100000 in
theorem dX9_points_8 : decode cX9_points 8 = .ok (.iconst 1, 1) := by decide +kernel
set_option maxRecDepth 100000 in
theorem dX9_points_9 : decode cX9_points 9 = .ok (.isub, 1) := by decide +kernel
set_option maxRecDepth 100000 in
theorem dX9_points_10 : decode cX9_points 10 = .ok (.laload, 1) := by decide +kernel
set_option maxRecDepth 100000 in
theorem dX9_points_11 : decode cX9_points 11 = .ok (.l2i, 1) := by decide +kernel
set_option maxRecDepth 100000 in
theorem dX9_points_12 : decode cX9_points 12 = .ok (.istore_n 2, 1) := by decide +kernel
set_option maxRecDepth 100000 in
theorem dX9_points_13 : decode cX9_points 13 = .ok (.aload_n 0, 1) := by decide +kernel
set_option maxRecDepth 100000 in
theorem dX9_points_14 : decode cX9_points 14 = .ok (.getfield 12, 3) := by decide +kernel
set_option maxRecDepth 100000 in
theorem dX9_points_17 : decode cX9_points 17 = .ok (.getfield 247, 3) := by decide +kernel
set_option maxRecDepth 100000 in
theorem dX9_points_20 : decode cX9_points 20 = .ok (.iload_n 2, 1) := by decide +kernel
set_option maxRecDepth 100000 in
theorem dX9_points_21 : decode cX9_points 21 = .ok (.baload, 1) := by decide +kernel
set_option maxRecDepth 100000 in
theorem dX9_points_22 : decode cX9_points 22 = .ok (.ifCond .ne 12, 3) := by decide +kernel
set_option maxRecDepth 100000 in
theorem dX9_points_25 : decode cX9_points 25 = .ok (.aload_n 0, 1) := by decide +kernel
set_option maxRecDepth 100000 in
theorem dX9_points_26 : decode cX9_points 26 = .ok (.iconst 5, 1) := by decide +kernel
set_option maxRecDepth 100000 in
theorem dX9_points_27 : decode cX9_points 27 = .ok (.iload_n 1, 1) := by decide +kernel
set_option maxRecDepth 100000 in
theorem dX9_points_28 : decode cX9_points 28 = .ok (.invokevirtual 147, 3) := by decide +kernel
set_option maxRecDepth 100000 in
theorem dX9_points_31 : decode cX9_points 31 = .ok (.goto 80, 3) := by decide +kernel
set_option maxRecDepth 100000 in
theorem dX9_points_34 : decode cX9_points 34 = .ok (.aload_n 0, 1) := by decide +kernel
set_option maxRecDepth 100000 in
theorem dX9_points_35 : decode cX9_points 35 = .ok (.getfield 12, 3) := by decide +kernel
set_option maxRecDepth 100000 in
theorem dX9_points_38 : decode cX9_points 38 = .ok (.getfield 218, 3) := by decide +kernel
set_option maxRecDepth 100000 in
theorem dX9_points_41 : decode cX9_points 41 = .ok (.iload_n 2, 1) := by decide +kernel
set_option maxRecDepth 100000 in
theorem dX9_points_42 : decode cX9_points 42 = .ok (.laload, 1) := by decide +kernel
set_option maxRecDepth 100000 in
theorem dX9_points_43 : decode cX9_points 43 = .ok (.lconst 0, 1) := by decide +kernel
set_option maxRecDepth 100000 in
theorem dX9_points_44 : decode cX9_points 44 = .ok (.lcmp, 1) := by decide +kernel
set_option maxRecDepth 100000 in
theorem dX9_points_45 : decode cX9_points 45 = .ok (.ifCond .ne 12, 3) := by decide +kernel
set_option maxRecDepth 100000 in
theorem dX9_points_48 : decode cX9_points 48 = .ok (.aload_n 0, 1) := by decide +kernel
set_option maxRecDepth 100000 in
theorem dX9_points_49 : decode cX9_points 49 = .ok (.iconst 3, 1) := by decide +kernel
set_option maxRecDepth 100000 in
theorem dX9_points_50 : decode cX9_points 50 = .ok (.iload_n 1, 1) := by decide +kernel
set_option maxRecDepth 100000 in
theorem dX9_points_51 : decode cX9_points 51 = .ok (.invokevirtual 147, 3) := by decide +kernel
set_option maxRecDepth 100000 in
theorem dX9_points_54 : decode cX9_points 54 = .ok (.goto 57, 3) := by decide +kernel
set_option maxRecDepth 100000 in
theorem dX9_points_57 : decode cX9_points 57 = .ok (.aload_n 0, 1) := by decide +kernel
set_option maxRecDepth 100000 in
theorem dX9_points_58 : decode cX9_points 58 = .ok (.getfield 67, 3) := by decide +kernel
set_option maxRecDepth 100000 in
theorem dX9_points_61 : decode cX9_points 61 = .ok (.aload_n 0, 1) := by decide +kernel
set_option maxRecDepth 100000 in
theorem dX9_points_62 : decode cX9_points 62 = .ok (.getfield 12, 3) := by decide +kernel
set_option maxRecDepth 100000 in
theorem dX9_points_65 : decode cX9_points 65 = .ok (.getfield 218, 3) := by decide +kernel
set_option maxRecDepth 100000 in
theorem dX9_points_68 : decode cX9_points 68 = .ok (.iload_n 2, 1) := by decide +kernel
set_option maxRecDepth 100000 in
theorem dX9_points_69 : decode cX9_points 69 = .ok (.laload, 1) := by decide +kernel
set_option maxRecDepth 100000 in
theorem dX9_points_70 : decode cX9_points 70 = .ok (.l2i, 1) := by decide +kernel
set_option maxRecDepth 100000 in
theorem dX9_points_71 : decode cX9_points 71 = .ok (.baload, 1) := by decide +kernel
set_option maxRecDepth 100000 in
theorem dX9_points_72 : decode cX9_points 72 = .ok (.ifCond .eq 12, 3) := by decide +kernel
set_option maxRecDepth 100000 in
theorem dX9_points_75 : decode cX9_points 75 = .ok (.aload_n 0, 1) := by decide +kernel
set_option maxRecDepth 100000 in
theorem dX9_points_76 : decode cX9_points 76 = .ok (.iconst 4, 1) := by decide +kernel
set_option maxRecDepth 100000 in
theorem dX9_points_77 : decode cX9_points 77 = .ok (.iload_n 1, 1) := by decide +kernel
set_option maxRecDepth 100000 in
theorem dX9_points_78 : decode cX9_points 78 = .ok (.invokevirtual 147, 3) := by decide +kernel
set_option maxRecDepth 100000 in
theorem dX9_points_81 : decode cX9_points 81 = .ok (.goto 30, 3) := by decide +kernel
set_option maxRecDepth 100000 in
theorem dX9_points_84 : decode cX9_points 84 = .ok (.aload_n 0, 1) := by decide +kernel
set_option maxRecDepth 100000 in
theorem dX9_points_85 : decode cX9_points 85 = .ok (.getfield 28, 3) := by decide +kernel
set_option maxRecDepth 100000 in
theorem dX9_points_88 : decode cX9_points 88 = .ok (.aload_n 0, 1) := by decide +kernel
set_option maxRecDepth 100000 in
theorem dX9_points_89 : decode cX9_points 89 = .ok (.getfield 86, 3) := by decide +kernel
set_option maxRecDepth 100000 in
theorem dX9_points_92 : decode cX9_points 92 = .ok (.iconst 1, 1) := by decide +kernel
set_option maxRecDepth 100000 in
theorem dX9_points_93 : decode cX9_points 93 = .ok (.isub, 1) := by decide +kernel
set_option maxRecDepth 100000 in
theorem dX9_points_94 : decode cX9_points 94 = .ok (.aload_n 0, 1) := by decide +kernel
set_option maxRecDepth 100000 in
theorem dX9_points_95 : decode cX9_points 95 = .ok (.getfield 64, 3) := by decide +kernel
set_option maxRecDepth 100000 in
theorem dX9_points_98 : decode cX9_points 98 = .ok (.aload_n 0, 1) := by decide +kernel
set_option maxRecDepth 100000 in
theorem dX9_points_99 : decode cX9_points 99 = .ok (.getfield 12, 3) := by decide +kernel
set_option maxRecDepth 100000 in
theorem dX9_points_102 : decode cX9_points 102 = .ok (.getfield 218, 3) := by decide +kernel
set_option maxRecDepth 100000 in
theorem dX9_points_105 : decode cX9_points 105 = .ok (.iload_n 2, 1) := by decide +kernel
set_option maxRecDepth 100000 in
theorem dX9_points_106 : decode cX9_points 106 = .ok (.laload, 1) := by decide +kernel
set_option maxRecDepth 100000 in
theorem dX9_points_107 : decode cX9_points 107 = .ok (.l2i, 1) := by decide +kernel
set_option maxRecDepth 100000 in
theorem dX9_points_108 : decode cX9_points 108 = .ok (.iaload, 1) := by decide +kernel
set_option maxRecDepth 100000 in
theorem dX9_points_109 : decode cX9_points 109 = .ok (.i2l, 1) := by decide +kernel
set_option maxRecDepth 100000 in
theorem dX9_points_110 : decode cX9_points 110 = .ok (.lastore, 1) := by decide +kernel
set_option maxRecDepth 100000 in
theorem dX9_points_111 : decode cX9_points 111 = .ok (.return_, 1) := by decide +kernel
set_option maxRecDepth 100000 in
def bX9_points_111 (G : xG) (fr lo : Nat) (h : xH) (Q : Outcome → xH → Prop) : Prop := Q (.returned none) h
set_option maxRecDepth 100000 in
theorem uX9_points_111 {G : xG} {fr lo : Nat} {h : xH} {Q : Outcome → xH → Prop} (hq : bX9_points_111 G fr lo h Q) : xP G YX9_points fr lo 111 [] [] h Q := by
  unfold bX9_points_111 at hq
  exact x_vret rfl dX9_points_111 hq
set_option maxRecDepth 100000 in
def bX9_points (G : xG) (fr lo : Nat) (x0 : Nat) (x1 : Int32) (h : xH) (Q : Outcome → xH → Prop) : Prop := tg h x0 = 10 ∧ tg h (fR h x0 2307) = 101 ∧ vp_in ((fI h x0 2310) - 1) (ln h (fR h x0 2307)) ∧ tg h (fR h x0 2305) = 11 ∧ tg h (fR h (fR h x0 2305) 2563) = 104 ∧ vp_in (Int64.toInt32 (aJ h (fR h x0 2307) (Int32.toNatClampNeg ((fI h x0 2310) - 1)))) (ln h (fR h (fR h x0 2305) 2563)) ∧ ((¬ (aI h (fR h (fR h x0 2305) 2563) (Int32.toNatClampNeg (Int64.toInt32 (aJ h (fR h x0 2307) (Int32.toNatClampNeg ((fI h x0 2310) - 1)))))) = 0 → tg h (fR h (fR h x0 2305) 2560) = 101 ∧ vp_in (Int64.toInt32 (aJ h (fR h x0 2307) (Int32.toNatClampNeg ((fI h x0 2310) - 1)))) (ln h (fR h (fR h x0 2305) 2560)) ∧ ((¬ (lg_cmp (aJ h (fR h (fR h x0 2305) 2560) (Int32.toNatClampNeg (Int64.toInt32 (aJ h (fR h x0 2307) (Int32.toNatClampNeg ((fI h x0 2310) - 1)))))) 0) = 0 → vp_in (Int64.toInt32 (aJ h (fR h x0 2307) (Int32.toNatClampNeg ((fI h x0 2310) - 1)))) (ln h (fR h (fR h x0 2305) 2560)) ∧ tg h (fR h x0 2322) = 104 ∧ vp_in (Int64.toInt32 (aJ h (fR h (fR h x0 2305) 2560) (Int32.toNatClampNeg (Int64.toInt32 (aJ h (fR h x0 2307) (Int32.toNatClampNeg ((fI h x0 2310) - 1))))))) (ln h (fR h x0 2322)) ∧ (((aI h (fR h x0 2322) (Int32.toNatClampNeg (Int64.toInt32 (aJ h (fR h (fR h x0 2305) 2560) (Int32.toNatClampNeg (Int64.toInt32 (aJ h (fR h x0 2307) (Int32.toNatClampNeg ((fI h x0 2310) - 1))))))))) = 0 → vp_in (Int64.toInt32 (aJ h (fR h x0 2307) (Int32.toNatClampNeg ((fI h x0 2310) - 1)))) (ln h (fR h (fR h x0 2305) 2560)) ∧ tg h (fR h x0 2321) = 100 ∧ vp_in (Int64.toInt32 (aJ h (fR h (fR h x0 2305) 2560) (Int32.toNatClampNeg (Int64.toInt32 (aJ h (fR h x0 2307) (Int32.toNatClampNeg ((fI h x0 2310) - 1))))))) (ln h (fR h x0 2321)) ∧ vp_in ((fI h x0 2310) - 1) (ln h (fR h x0 2307)) ∧ (∀ h19 : xH, h19 = tJ h (fR h x0 2307) (Int32.toNatClampNeg ((fI h x0 2310) - 1)) (Int32.toInt64 (aI h (fR h x0 2321) (Int32.toNatClampNeg (Int64.toInt32 (aJ h (fR h (fR h x0 2305) 2560) (Int32.toNatClampNeg (Int64.toInt32 (aJ h (fR h x0 2307) (Int32.toNatClampNeg ((fI h x0 2310) - 1)))))))))) → bX9_points_111 G fr lo h19 Q)) ∧ (¬ (aI h (fR h x0 2322) (Int32.toNatClampNeg (Int64.toInt32 (aJ h (fR h (fR h x0 2305) 2560) (Int32.toNatClampNeg (Int64.toInt32 (aJ h (fR h x0 2307) (Int32.toNatClampNeg ((fI h x0 2310) - 1))))))))) = 0 → 1 ≤ fr ∧ 14 ≤ lo ∧ xRv G YX9_fail (fr - 1) (lo - 14) [rv x0, .int 4, .int x1] h (fun h23 => xext h h23 → bX9_points_111 G fr lo h23 Q) (fun r h2 => Q (.threw r) h2)))) ∧ ((lg_cmp (aJ h (fR h (fR h x0 2305) 2560) (Int32.toNatClampNeg (Int64.toInt32 (aJ h (fR h x0 2307) (Int32.toNatClampNeg ((fI h x0 2310) - 1)))))) 0) = 0 → 1 ≤ fr ∧ 14 ≤ lo ∧ xRv G YX9_fail (fr - 1) (lo - 14) [rv x0, .int 3, .int x1] h (fun h28 => xext h h28 → bX9_points_111 G fr lo h28 Q) (fun r h2 => Q (.threw r) h2)))) ∧ ((aI h (fR h (fR h x0 2305) 2563) (Int32.toNatClampNeg (Int64.toInt32 (aJ h (fR h x0 2307) (Int32.toNatClampNeg ((fI h x0 2310) - 1)))))) = 0 → 1 ≤ fr ∧ 14 ≤ lo ∧ xRv G YX9_fail (fr - 1) (lo - 14) [rv x0, .int 5, .int x1] h (fun h33 => xext h h33 → bX9_points_111 G fr lo h33 Q) (fun r h2 => Q (.threw r) h2)))
set_option maxRecDepth 100000 in
theorem uX9_points {G : xG} {fr lo : Nat} {x0 : Nat} {x1 : Int32} {h : xH} {Q : Outcome → xH → Prop} (hq : bX9_points G fr lo x0 x1 h Q) : xP G YX9_points fr lo 0 [(0, rv x0), (1, .int x1)] [] h Q := by
  unfold bX9_points at hq
  refine x_aload_n 0 dX9_points_0 rfl ?_
  obtain ⟨g1, hq⟩ := hq
  refine x_get (v := rv (fR h x0 2307)) fdX9_28 dX9_points_1 g1 rfl ?_
  refine x_aload_n 0 dX9_points_4 rfl ?_
  refine x_get (v := .int (fI h x0 2310)) fdX9_86 dX9_points_5 g1 rfl ?_
  refine x_iconst (v := 1) dX9_points_8 (by decide) ?_
  refine x_isub dX9_points_9 ?_
  obtain ⟨g2, hq⟩ := hq
  obtain ⟨i3, hq⟩ := hq
  refine x_lald g2 i3 dX9_points_10 ?_
  refine x_l2i dX9_points_11 ?_
  refine x_istore_n (lv' := [(2, .int (Int64.toInt32 (aJ h (fR h x0 2307) (Int32.toNatClampNeg ((fI h x0 2310) - 1))))), (0, rv x0), (1, .int x1)]) dX9_points_12 (by decide) rfl ?_
  refine x_aload_n 1 dX9_points_13 rfl ?_
  refine x_get (v := rv (fR h x0 2305)) fdX9_12 dX9_points_14 g1 rfl ?_
  obtain ⟨g4, hq⟩ := hq
  refine x_getN (v := rv (fR h (fR h x0 2305) 2563)) gfX9_247 dX9_points_17 g4 rfl ?_
  refine x_iload_n 0 dX9_points_20 rfl ?_
  obtain ⟨g5, hq⟩ := hq
  obtain ⟨i6, hq⟩ := hq
  refine x_zald g5 i6 dX9_points_21 ?_
  refine x_if_ne (tgt := 34) dX9_points_22 (by decide) (fun c7 => ?_) (fun c7 => ?_)
  · replace hq := hq.1 c7
    refine x_aload_n 1 dX9_points_34 rfl ?_
    refine x_get (v := rv (fR h x0 2305)) fdX9_12 dX9_points_35 g1 rfl ?_
    refine x_getN (v := rv (fR h (fR h x0 2305) 2560)) gfX9_218 dX9_points_38 g4 rfl ?_
    refine x_iload_n 0 dX9_points_41 rfl ?_
    obtain ⟨g8, hq⟩ := hq
    obtain ⟨i9, hq⟩ := hq
    refine x_lald g8 i9 dX9_points_42 ?_
    refine x_lconst (v := 0) dX9_points_43 (by decide) ?_
    refine x_lcmp dX9_points_44 ?_
    refine x_if_ne (tgt := 57) dX9_points_45 (by decide) (fun c10 => ?_) (fun c10 => ?_)
    · replace hq := hq.1 c10
      refine x_aload_n 1 dX9_points_57 rfl ?_
      refine x_get (v := rv (fR h x0 2322)) fdX9_67 dX9_points_58 g1 rfl ?_
      refine x_aload_n 1 dX9_points_61 rfl ?_
      refine x_get (v := rv (fR h x0 2305)) fdX9_12 dX9_points_62 g1 rfl ?_
      refine x_getN (v := rv (fR h (fR h x0 2305) 2560)) gfX9_218 dX9_points_65 g4 rfl ?_
      refine x_iload_n 0 dX9_points_68 rfl ?_
      obtain ⟨i11, hq⟩ := hq
      refine x_lald g8 i11 dX9_points_69 ?_
      refine x_l2i dX9_points_70 ?_
      obtain ⟨g12, hq⟩ := hq
      obtain ⟨i13, hq⟩ := hq
      refine x_zald g12 i13 dX9_points_71 ?_
      refine x_if_eq (tgt := 84) dX9_points_72 (by decide) (fun c14 => ?_) (fun c14 => ?_)
      · replace hq := hq.1 c14
        refine x_aload_n 1 dX9_points_84 rfl ?_
        refine x_get (v := rv (fR h x0 2307)) fdX9_28 dX9_points_85 g1 rfl ?_
        refine x_aload_n 1 dX9_points_88 rfl ?_
        refine x_get (v := .int (fI h x0 2310)) fdX9_86 dX9_points_89 g1 rfl ?_
        refine x_iconst (v := 1) dX9_points_92 (by decide) ?_
        refine x_isub dX9_points_93 ?_
        refine x_aload_n 1 dX9_points_94 rfl ?_
        refine x_get (v := rv (fR h x0 2321)) fdX9_64 dX9_points_95 g1 rfl ?_
        refine x_aload_n 1 dX9_points_98 rfl ?_
        refine x_get (v := rv (fR h x0 2305)) fdX9_12 dX9_points_99 g1 rfl ?_
        refine x_getN (v := rv (fR h (fR h x0 2305) 2560)) gfX9_218 dX9_points_102 g4 rfl ?_
        refine x_iload_n 0 dX9_points_105 rfl ?_
        obtain ⟨i15, hq⟩ := hq
        refine x_lald g8 i15 dX9_points_106 ?_
        refine x_l2i dX9_points_107 ?_
        obtain ⟨g16, hq⟩ := hq
        obtain ⟨i17, hq⟩ := hq
        refine x_iald 0 (Or.inl rfl) g16 i17 dX9_points_108 ?_
        refine x_i2l dX9_points_109 ?_
        obtain ⟨i18, hq⟩ := hq
        obtain ⟨h19, e20⟩ : ∃ y, y = tJ h (fR h x0 2307) (Int32.toNatClampNeg ((fI h x0 2310) - 1)) (Int32.toInt64 (aI h (fR h x0 2321) (Int32.toNatClampNeg (Int64.toInt32 (aJ h (fR h (fR h x0 2305) 2560) (Int32.toNatClampNeg (Int64.toInt32 (aJ h (fR h x0 2307) (Int32.toNatClampNeg ((fI h x0 2310) - 1)))))))))) := ⟨_, rfl⟩
        replace hq := hq h19 e20
        refine x_last' g2 i18 dX9_points_110 e20 ?_
        refine xP.pick (lv' := []) [] rfl ?_
        exact uX9_points_111 hq
      · replace hq := hq.2 c14
        refine x_aload_n 1 dX9_points_75 rfl ?_
        refine x_iconst (v := 4) dX9_points_76 (by decide) ?_
        refine x_iload_n 2 dX9_points_77 rfl ?_
        obtain ⟨g21, g22, hq⟩ := hq
        refine x_callV (Yc := YX9_fail) (as := [.int 4, .int x1]) (st := []) q2835 mvX9_fail g1 rfl dX9_points_78 (xle (xal1 (rv_cat _) (xal1 rfl (xal1 rfl xal0))) (by decide)) (xfr g21) (xlo xsw0 (by decide) g22) (xKv hq (fun h23 hq e25 => ?_) (fun _ _ q _ => q))
        replace hq := hq e25
        refine x_goto (tgt := 111) dX9_points_81 (by decide) ?_
        refine xP.pick (lv' := []) [] rfl ?_
        exact uX9_points_111 hq
    · replace hq := hq.2 c10
      refine x_aload_n 1 dX9_points_48 rfl ?_
      refine x_iconst (v := 3) dX9_points_49 (by decide) ?_
      refine x_iload_n 2 dX9_points_50 rfl ?_
      obtain ⟨g26, g27, hq⟩ := hq
      refine x_callV (Yc := YX9_fail) (as := [.int 3, .int x1]) (st := []) q2835 mvX9_fail g1 rfl dX9_points_51 (xle (xal1 (rv_cat _) (xal1 rfl (xal1 rfl xal0))) (by decide)) (xfr g26) (xlo xsw0 (by decide) g27) (xKv hq (fun h28 hq e30 => ?_) (fun _ _ q _ => q))
      replace hq := hq e30
      refine x_goto (tgt := 111) dX9_points_54 (by decide) ?_
      refine xP.pick (lv' := []) [] rfl ?_
      exact uX9_points_111 hq
  · replace hq := hq.2 c7
    refine x_aload_n 1 dX9_points_25 rfl ?_
    refine x_iconst (v := 5) dX9_points_26 (by decide) ?_
    refine x_iload_n 2 dX9_points_27 rfl ?_
    obtain ⟨g31, g32, hq⟩ := hq
    refine x_callV (Yc := YX9_fail) (as := [.int 5, .int x1]) (st := []) q2835 mvX9_fail g1 rfl dX9_points_28 (xle (xal1 (rv_cat _) (xal1 rfl (xal1 rfl xal0))) (by decide)) (xfr g31) (xlo xsw0 (by decide) g32) (xKv hq (fun h33 hq e35 => ?_) (fun _ _ q _ => q))
    replace hq := hq e35
    refine x_goto (tgt := 111) dX9_points_31 (by decide) ?_
    refine xP.pick (lv' := []) [] rfl ?_
    exact uX9_points_111 hq
theorem rX9_points {G : xG} {fr lo : Nat} {x0 : Nat} {x1 : Int32} {h : xH} {Q : Outcome → xH → Prop} (hq : bX9_points G fr lo x0 x1 h Q) : xR G YX9_points fr lo [rv x0, .int x1] h Q := by
  show xP _ _ _ _ _ (lv_args 0 _) _ _ _
  rw [show lv_args 0 [rv x0, .int x1] = [(0, rv x0), (1, .int x1)] from (xla1 (rv_cat _) (xla1 rfl xla0))]
  exact uX9_points hq
set_option maxRecDepth 100000 in
theorem dX9_looks_0 : decode cX9_looks 0 = .ok (.aload_n 1, 1) := by decide +kernel
set_option maxRecDepth 100000 in
theorem dX9_looks_1 : decode cX9_looks 1 = .ok (.getfield 250, 3) := by decide +kernel
set_option maxRecDepth 100000 in
theorem dX9_looks_4 : decode cX9_looks 4 = .ok (.ifnull 16, 3) := by decide +kernel
set_option maxRecDepth 100000 in
theorem dX9_looks_7 : decode cX9_looks 7 = .ok (.aload_n 0, 1) := by decide +kernel
set_option maxRecDepth 100000 in
theorem dX9_looks_8 : decode cX9_looks 8 = .ok (.aload_n 1, 1) := by decide +kernel
set_option maxRecDepth 100000 in
theorem dX9_looks_9 : decode cX9_looks 9 = .ok (.getfield 250, 3) := by decide +kernel
set_option maxRecDepth 100000 in
theorem dX9_looks_12 : decode cX9_looks 12 = .ok (.aload_n 1, 1) := by decide +kernel
set_option maxRecDepth 100000 in
theorem dX9_looks_13 : decode cX9_looks 13 = .ok (.getfield 254, 3) := by decide +kernel
set_option maxRecDepth 100000 in
theorem dX9_looks_16 : decode cX9_looks 16 = .ok (.iload_n 3, 1) := by decide +kernel
set_option maxRecDepth 100000 in
theorem dX9_looks_17 : decode cX9_looks 17 = .ok (.invokevirtual 236, 3) := by decide +kernel
set_option maxRecDepth 100000 in
theorem dX9_looks_20 : decode cX9_looks 20 = .ok (.aload_n 0, 1) := by decide +kernel
set_option maxRecDepth 100000 in
theorem dX9_looks_21 : decode cX9_looks 21 = .ok (.getfield 79, 3) := by decide +kernel
set_option maxRecDepth 100000 in
theorem dX9_looks_24 : decode cX9_looks 24 = .ok (.ifCond .eq 4, 3) := by decide +kernel
set_option maxRecDepth 100000 in
theorem dX9_looks_27 : decode cX9_looks 27 = .ok (.return_, 1) := by decide +kernel
set_option maxRecDepth 100000 in
theorem dX9_looks_28 : decode cX9_looks 28 = .ok (.aload_n 0, 1) := by decide +kernel
set_option maxRecDepth 100000 in
theorem dX9_looks_29 : decode cX9_looks 29 = .ok (.getfield 28, 3) := by decide +kernel
set_option maxRecDepth 100000 in
theorem dX9_looks_32 : decode cX9_looks 32 = .ok (.aload_n 0, 1) := by decide +kernel
set_option maxRecDepth 100000 in
theorem dX9_looks_33 : decode cX9_looks 33 = .ok (.getfield 86, 3) := by decide +kernel
set_option maxRecDepth 100000 in
theorem dX9_looks_36 : decode cX9_looks 36 = .ok (.iconst 1, 1) := by decide +kernel
set_option maxRecDepth 100000 in
theorem dX9_looks_37 : decode cX9_looks 37 = .ok (.isub, 1) := by decide +kernel
set_option maxRecDepth 100000 in
theorem dX9_looks_38 : decode cX9_looks 38 = .ok (.laload, 1) := by decide +kernel
set_option maxRecDepth 100000 in
theorem dX9_looks_39 : decode cX9_looks 39 = .ok (.l2i, 1) := by decide +kernel
set_option maxRecDepth 100000 in
theorem dX9_looks_40 : decode cX9_looks 40 = .ok (.istore 4, 2) := by decide +kernel
set_option maxRecDepth 100000 in
theorem dX9_looks_42 : decode cX9_looks 42 = .ok (.iload 4, 2) := by decide +kernel
set_option maxRecDepth 100000 in
theorem dX9_looks_44 : decode cX9_looks 44 = .ok (.aload_n 1, 1) := by decide +kernel
set_option maxRecDepth 100000 in
theorem dX9_looks_45 : decode cX9_looks 45 = .ok (.getfield 257, 3) := by decide +kernel
set_option maxRecDepth 100000 in
theorem dX9_looks_48 : decode cX9_looks 48 = .ok (.iadd, 1) := by decide +kernel
set_option maxRecDepth 100000 in
theorem dX9_looks_49 : decode cX9_looks 49 = .ok (.istore 5, 2) := by decide +kernel
set_option maxRecDepth 100000 in
theorem dX9_looks_51 : decode cX9_looks 51 = .ok (.aload_n 1, 1) := by decide +kernel
set_option maxRecDepth 100000 in
theorem dX9_looks_52 : decode cX9_looks 52 = .ok (.getfield 260, 3) := by decide +kernel
set_option maxRecDepth 100000 in
theorem dX9_looks_55 : decode cX9_looks 55 = .ok (.ifCond .eq 51, 3) := by decide +kernel
set_option maxRecDepth 100000 in
theorem dX9_looks_58 : decode cX9_looks 58 = .ok (.aload_n 0, 1) := by decide +kernel
set_option maxRecDepth 100000 in
theorem dX9_looks_59 : decode cX9_looks 59 = .ok (.getfield 12, 3) := by decide +kernel
set_option maxRecDepth 100000 in
theorem dX9_looks_62 : decode cX9_looks 62 = .ok (.getfield 247, 3) := by decide +kernel
set_option maxRecDepth 100000 in
theorem dX9_looks_65 : decode cX9_looks 65 = .ok (.iload 5, 2) := by decide +kernel
set_option maxRecDepth 100000 in
theorem dX9_looks_67 : decode cX9_looks 67 = .ok (.baload, 1) := by decide +kernel
set_option maxRecDepth 100000 in
theorem dX9_looks_68 : decode cX9_looks 68 = .ok (.ifCond .ne 12, 3) := by decide +kernel
set_option maxRecDepth 100000 in
theorem dX9_looks_71 : decode cX9_looks 71 = .ok (.aload_n 0, 1) := by decide +kernel
set_option maxRecDepth 100000 in
theorem dX9_looks_72 : decode cX9_looks 72 = .ok (.iconst 5, 1) := by decide +kernel
set_option maxRecDepth 100000 in
theorem dX9_looks_73 : decode cX9_looks 73 = .ok (.iload_n 3, 1) := by decide +kernel
set_option maxRecDepth 100000 in
theorem dX9_looks_74 : decode cX9_looks 74 = .ok (.invokevirtual 147, 3) := by decide +kernel
set_option maxRecDepth 100000 in
theorem dX9_looks_77 : decode cX9_looks 77 = .ok (.goto 28, 3) := by decide +kernel
set_option maxRecDepth 100000 in
theorem dX9_looks_80 : decode cX9_looks 80 = .ok (.aload_n 1, 1) := by decide +kernel
set_option maxRecDepth 100000 in
theorem dX9_looks_81 : decode cX9_looks 81 = .ok (.aload_n 0, 1) := by decide +kernel
set_option maxRecDepth 100000 in
theorem dX9_looks_82 : decode cX9_looks 82 = .ok (.getfield 12, 3) := by decide +kernel
set_option maxRecDepth 100000 in
theorem dX9_looks_85 : decode cX9_looks 85 = .ok (.getfield 218, 3) := by decide +kernel
set_option maxRecDepth 100000 in
theorem dX9_looks_88 : decode cX9_looks 88 = .ok (.iload 5, 2) := by decide +kernel
set_option maxRecDepth 100000 in
theorem dX9_looks_90 : decode cX9_looks 90 = .ok (.laload, 1) := by decide +kernel
set_option maxRecDepth 100000 in
theorem dX9_looks_91 : decode cX9_looks 91 = .ok (.invokevirtual 263, 3) := by decide +kernel
set_option maxRecDepth 100000 in
theorem dX9_looks_94 : decode cX9_looks 94 = .ok (.iload_n 2, 1) := by decide +kernel
set_option maxRecDepth 100000 in
theorem dX9_looks_95 : decode cX9_looks 95 = .ok (.if_icmp .eq 10, 3) := by decide +kernel
set_option maxRecDepth 100000 in
theorem dX9_looks_98 : decode cX9_looks 98 = .ok (.aload_n 0, 1) := by decide +kernel
set_option maxRecDepth 100000 in
theorem dX9_looks_99 : decode cX9_looks 99 = .ok (.bipush 6, 2) := by decide +kernel
set_option maxRecDepth 100000 in
theorem dX9_looks_101 : decode cX9_looks 101 = .ok (.iload_n 3, 1) := by decide +kernel
set_option maxRecDepth 100000 in
theorem dX9_looks_102 : decode cX9_looks 102 = .ok (.invokevirtual 147, 3) := by decide +kernel
set_option maxRecDepth 100000 in
theorem dX9_looks_105 : decode cX9_looks 105 = .ok (.return_, 1) := by decide +kernel
set_option maxRecDepth 100000 in
theorem dX9_looks_106 : decode cX9_looks 106 = .ok (.aload_n 0, 1) := by decide +kernel
set_option maxRecDepth 100000 in
theorem dX9_looks_107 : decode cX9_looks 107 = .ok (.getfield 12, 3) := by decide +kernel
set_option maxRecDepth 100000 in
theorem dX9_looks_110 : decode cX9_looks 110 = .ok (.getfield 247, 3) := by decide +kernel
set_option maxRecDepth 100000 in
theorem dX9_looks_113 : decode cX9_looks 113 = .ok (.iload 5, 2) := by decide +kernel
set_option maxRecDepth 100000 in
theorem dX9_looks_115 : decode cX9_looks 115 = .ok (.baload, 1) := by decide +kernel
set_option maxRecDepth 100000 in
theorem dX9_looks_116 : decode cX9_looks 116 = .ok (.ifCond .eq 20, 3) := by decide +kernel
set_option maxRecDepth 100000 in
theorem dX9_looks_119 : decode cX9_looks 119 = .ok (.aload_n 0, 1) := by decide +kernel
set_option maxRecDepth 100000 in
theorem dX9_looks_120 : decode cX9_looks 120 = .ok (.getfield 12, 3) := by decide +kernel
set_option maxRecDepth 100000 in
theorem dX9_looks_123 : decode cX9_looks 123 = .ok (.getfield 218, 3) := by decide +kernel
set_option maxRecDepth 100000 in
theorem dX9_looks_126 : decode cX9_looks 126 = .ok (.iload 5, 2) := by decide +kernel
set_option maxRecDepth 100000 in
theorem dX9_looks_128 : decode cX9_looks 128 = .ok (.laload, 1) := by decide +kernel
set_option maxRecDepth 100000 in
theorem dX9_looks_129 : decode cX9_looks 129 = .ok (.iload_n 2, 1) := by decide +kernel
set_option maxRecDepth 100000 in
theorem dX9_looks_130 : decode cX9_looks 130 = .ok (.i2l, 1) := by decide +kernel
set_option maxRecDepth 100000 in
theorem dX9_looks_131 : decode cX9_looks 131 = .ok (.lcmp, 1) := by decide +kernel
set_option maxRecDepth 100000 in
theorem dX9_looks_132 : decode cX9_looks 132 = .ok (.ifCond .ne 4, 3) := by decide +kernel
set_option maxRecDepth 100000 in
theorem dX9_looks_135 : decode cX9_looks 135 = .ok (.return_, 1) := by decide +kernel
set_option maxRecDepth 100000 in
theorem dX9_looks_136 : decode cX9_looks 136 = .ok (.aload_n 0, 1) := by decide +kernel
set_option maxRecDepth 100000 in
theorem dX9_looks_137 : decode cX9_looks 137 = .ok (.aload_n 1, 1) := by decide +kernel
set_option maxRecDepth 100000 in
theorem dX9_looks_138 : decode cX9_looks 138 = .ok (.getfield 267, 3) := by decide +kernel
set_option maxRecDepth 100000 in
theorem dX9_looks_141 : decode cX9_looks 141 = .ok (.aload_n 1, 1) := by decide +kernel
set_option maxRecDepth 100000 in
theorem dX9_looks_142 : decode cX9_looks 142 = .ok (.getfield 270, 3) := by decide +kernel
set_option maxRecDepth 100000 in
theorem dX9_looks_145 : decode cX9_looks 145 = .ok (.isub, 1) := by decide +kernel
set_option maxRecDepth 100000 in
theorem dX9_looks_146 : decode cX9_looks 146 = .ok (.bipush 8, 2) := by decide +kernel
set_option maxRecDepth 100000 in
theorem dX9_looks_148 : decode cX9_looks 148 = .ok (.idiv, 1) := by decide +kernel
set_option maxRecDepth 100000 in
theorem dX9_looks_149 : decode cX9_looks 149 = .ok (.iload_n 3, 1) := by decide +kernel
set_option maxRecDepth 100000 in
theorem dX9_looks_150 : decode cX9_looks 150 = .ok (.invokevirtual 273, 3) := by decide +kernel
set_option maxRecDepth 100000 in
theorem dX9_looks_153 : decode cX9_looks 153 = .ok (.ifCond .ne 4, 3) := by decide +kernel
set_option maxRecDepth 100000 in
theorem dX9_looks_156 : decode cX9_looks 156 = .ok (.return_, 1) := by decide +kernel
set_option maxRecDepth 100000 in
theorem dX9_looks_157 : decode cX9_looks 157 = .ok (.aload_n 0, 1) := by decide +kernel
set_option maxRecDepth 100000 in
theorem dX9_looks_158 : decode cX9_looks 158 = .ok (.getfield 12, 3) := by decide +kernel
set_option maxRecDepth 100000 in
theorem dX9_looks_161 : decode cX9_looks 161 = .ok (.iload 4, 2) := by decide +kernel
set_option maxRecDepth 100000 in
theorem dX9_looks_163 : decode cX9_looks 163 = .ok (.aload_n 1, 1) := by decide +kernel
set_option maxRecDepth 100000 in
theorem dX9_looks_164 : decode cX9_looks 164 = .ok (.getfield 270, 3) := by decide +kernel
set_option maxRecDepth 100000 in
theorem dX9_looks_167 : decode cX9_looks 167 = .ok (.iadd, 1) := by decide +kernel
set_option maxRecDepth 100000 in
theorem dX9_looks_168 : decode cX9_looks 168 = .ok (.iload 4, 2) := by decide +kernel
set_option maxRecDepth 100000 in
theorem dX9_looks_170 : decode cX9_looks 170 = .ok (.aload_n 1, 1) := by decide +kernel
set_option maxRecDepth 100000 in
theorem dX9_looks_171 : decode cX9_looks 171 = .ok (.getfield 267, 3) := by decide +kernel
set_option maxRecDepth 100000 in
theorem dX9_looks_174 : decode cX9_looks 174 = .ok (.iadd, 1) := by decide +kernel
set_option maxRecDepth 100000 in
theorem dX9_looks_175 : decode cX9_looks 175 = .ok (.invokevirtual 155, 3) := by decide +kernel
set_option maxRecDepth 100000 in
theorem dX9_looks_178 : decode cX9_looks 178 = .ok (.aload_n 0, 1) := by decide +kernel
set_option maxRecDepth 100000 in
theorem dX9_looks_179 : decode cX9_looks 179 = .ok (.getfield 12, 3) := by decide +kernel
set_option maxRecDepth 100000 in
theorem dX9_looks_182 : decode cX9_looks 182 = .ok (.iload 5, 2) := by decide +kernel
set_option maxRecDepth 100000 in
theorem dX9_looks_184 : decode cX9_looks 184 = .ok (.iload_n 2, 1) := by decide +kernel
set_option maxRecDepth 100000 in
theorem dX9_looks_185 : decode cX9_looks 185 = .ok (.i2l, 1) := by decide +kernel
set_option maxRecDepth 100000 in
theorem dX9_looks_186 : decode cX9_looks 186 = .ok (.invokevirtual 140, 3) := by decide +kernel
set_option maxRecDepth 100000 in
theorem dX9_looks_189 : decode cX9_looks 189 = .ok (.return_, 1) := by decide +kernel
set_option maxRecDepth 100000 in
def bX9_looks_136 (G : xG) (fr lo : Nat) (x0 : Nat) (x1 : Nat) (x2 : Int32) (x3 : Int32) (x4 : Int32) (x5 : Int32) (h : xH) (Q : Outcome → xH → Prop) : Prop := tg h x1 = 20 ∧ tg h x0 = 10 ∧ 1 ≤ fr ∧ 14 ≤ lo ∧ xRi G YX9_takes (fr - 1) (lo - 14) [rv x0, .int (((fI h x1 4868) - (fI h x1 4867)) / 8), .int x3] h (fun x6 h5 => xext h h5 → ((¬ x6 = 0 → tg h5 (fR h5 x0 2305) = 11 ∧ 1 ≤ fr ∧ 15 ≤ lo ∧ xRv G YX10_forget (fr - 1) (lo - 15) [rv (fR h5 x0 2305), .int (x4 + (fI h5 x1 4867)), .int (x4 + (fI h5 x1 4868))] h5 (fun h14 => xext h5 h14 → tg h14 (fR h14 x0 2305) = 11 ∧ 1 ≤ fr ∧ 15 ≤ lo ∧ xRv G YX10_set (fr - 1) (lo - 15) [rv (fR h14 x0 2305), .int x5, .long (Int32.toInt64 x2)] h14 (fun h21 => xext h14 h21 → Q (.returned none) h21) (fun r h2 => Q (.threw r) h2)) (fun r h2 => Q (.threw r) h2)) ∧ (x6 = 0 → Q (.returned none) h5))) (fun r h2 => Q (.threw r) h2)
set_option maxRecDepth 100000 in
theorem uX9_looks_136 {G : xG} {fr lo : Nat} {x0 : Nat} {x1 : Nat} {x2 : Int32} {x3 : Int32} {x4 : Int32} {x5 : Int32} {h : xH} {Q : Outcome → xH → Prop} (hq : bX9_looks_136 G fr lo x0 x1 x2 x3 x4 x5 h Q) : xP G YX9_looks fr lo 136 [(0, rv x0), (1, rv x1), (2, .int x2), (3, .int x3), (4, .int x4), (5, .int x5)] [] h Q := by
  unfold bX9_looks_136 at hq
  refine x_aload_n 0 dX9_looks_136 rfl ?_
  refine x_aload_n 1 dX9_looks_137 rfl ?_
  obtain ⟨g1, hq⟩ := hq
  refine x_getN (v := .int (fI h x1 4868)) gfX9_267 dX9_looks_138 g1 rfl ?_
  refine x_aload_n 1 dX9_looks_141 rfl ?_
  refine x_getN (v := .int (fI h x1 4867)) gfX9_270 dX9_looks_142 g1 rfl ?_
  refine x_isub dX9_looks_145 ?_
  refine x_bipush (v := 8) dX9_looks_146 (by decide) ?_
  refine x_idiv dX9_looks_148 (by decide) ?_
  refine x_iload_n 3 dX9_looks_149 rfl ?_
  obtain ⟨g2, hq⟩ := hq
  obtain ⟨g3, g4, hq⟩ := hq
  refine x_callV (Yc := YX9_takes) (as := [.int (((fI h x1 4868) - (fI h x1 4867)) / 8), .int x3]) (st := []) q2913 mvX9_takes g2 rfl dX9_looks_150 (xle (xal1 (rv_cat _) (xal1 rfl (xal1 rfl xal0))) (by decide)) (xfr g3) (xlo xsw0 (by decide) g4) (xKi hq (fun x6 h5 hq e7 => ?_) (fun _ _ q _ => q))
  replace hq := hq e7
  refine x_if_ne (tgt := 157) dX9_looks_153 (by decide) (fun c8 => ?_) (fun c8 => ?_)
  · replace hq := hq.1 c8
    refine x_aload_n 0 dX9_looks_157 rfl ?_
    have t9 : tg h5 x0 = 10 := e7.tg g2 (by decide)
    refine x_get (v := rv (fR h5 x0 2305)) fdX9_12 dX9_looks_158 t9 rfl ?_
    refine x_iload 4 dX9_looks_161 rfl ?_
    refine x_aload_n 1 dX9_looks_163 rfl ?_
    have t10 : tg h5 x1 = 20 := e7.tg g1 (by decide)
    refine x_getN (v := .int (fI h5 x1 4867)) gfX9_270 dX9_looks_164 t10 rfl ?_
    refine x_iadd dX9_looks_167 ?_
    refine x_iload 4 dX9_looks_168 rfl ?_
    refine x_aload_n 1 dX9_looks_170 rfl ?_
    refine x_getN (v := .int (fI h5 x1 4868)) gfX9_267 dX9_looks_171 t10 rfl ?_
    refine x_iadd dX9_looks_174 ?_
    obtain ⟨g11, hq⟩ := hq
    obtain ⟨g12, g13, hq⟩ := hq
    refine x_callV (Yc := YX10_forget) (as := [.int (x4 + (fI h5 x1 4867)), .int (x4 + (fI h5 x1 4868))]) (st := []) q2843 mvX10_forget g11 rfl dX9_looks_175 (xle (xal1 (rv_cat _) (xal1 rfl (xal1 rfl xal0))) (by decide)) (xfr g12) (xlo xsw0 (by decide) g13) (xKv hq (fun h14 hq e16 => ?_) (fun _ _ q _ => q))
    replace hq := hq e16
    refine x_aload_n 0 dX9_looks_178 rfl ?_
    have t17 : tg h14 x0 = 10 := e16.tg t9 (by decide)
    refine x_get (v := rv (fR h14 x0 2305)) fdX9_12 dX9_looks_179 t17 rfl ?_
    refine x_iload 5 dX9_looks_182 rfl ?_
    refine x_iload_n 2 dX9_looks_184 rfl ?_
    refine x_i2l dX9_looks_185 ?_
    obtain ⟨g18, hq⟩ := hq
    obtain ⟨g19, g20, hq⟩ := hq
    refine x_callV (Yc := YX10_set) (as := [.int x5, .long (Int32.toInt64 x2)]) (st := []) q2831 mvX10_set g18 rfl dX9_looks_186 (xle (xal1 (rv_cat _) (xal1 rfl (xal2 rfl xal0))) (by decide)) (xfr g19) (xlo xsw0 (by decide) g20) (xKv hq (fun h21 hq e23 => ?_) (fun _ _ q _ => q))
    replace hq := hq e23
    exact x_vret rfl dX9_looks_189 hq
  · replace hq := hq.2 c8
    exact x_vret rfl dX9_looks_156 hq
set_option maxRecDepth 100000 in
def bX9_looks_105 (G : xG) (fr lo : Nat) (h : xH) (Q : Outcome → xH → Prop) : Prop := Q (.returned none) h
set_option maxRecDepth 100000 in
theorem uX9_looks_105 {G : xG} {fr lo : Nat} {h : xH} {Q : Outcome → xH → Prop} (hq : bX9_looks_105 G fr lo h Q) : xP G YX9_looks fr lo 105 [] [] h Q := by
  unfold bX9_looks_105 at hq
  exact x_vret rfl dX9_looks_105 hq
set_option maxRecDepth 100000 in
def bX9_looks_20 (G : xG) (fr lo : Nat) (x0 : Nat) (x1 : Nat) (x2 : Int32) (x3 : Int32) (h : xH) (Q : Outcome → xH → Prop) : Prop := tg h x0 = 10 ∧ (((fI h x0 2326) = 0 → tg h (fR h x0 2307) = 101 ∧ vp_in ((fI h x0 2310) - 1) (ln h (fR h x0 2307)) ∧ tg h x1 = 20 ∧ (((fI h x1 4869) = 0 → tg h (fR h x0 2305) = 11 ∧ tg h (fR h (fR h x0 2305) 2563) = 104 ∧ vp_in ((Int64.toInt32 (aJ h (fR h x0 2307) (Int32.toNatClampNeg ((fI h x0 2310) - 1)))) + (fI h x1 4866)) (ln h (fR h (fR h x0 2305) 2563)) ∧ (((aI h (fR h (fR h x0 2305) 2563) (Int32.toNatClampNeg ((Int64.toInt32 (aJ h (fR h x0 2307) (Int32.toNatClampNeg ((fI h x0 2310) - 1)))) + (fI h x1 4866)))) = 0 → bX9_looks_136 G fr lo x0 x1 x2 x3 (Int64.toInt32 (aJ h (fR h x0 2307) (Int32.toNatClampNeg ((fI h x0 2310) - 1)))) ((Int64.toInt32 (aJ h (fR h x0 2307) (Int32.toNatClampNeg ((fI h x0 2310) - 1)))) + (fI h x1 4866)) h Q) ∧ (¬ (aI h (fR h (fR h x0 2305) 2563) (Int32.toNatClampNeg ((Int64.toInt32 (aJ h (fR h x0 2307) (Int32.toNatClampNeg ((fI h x0 2310) - 1)))) + (fI h x1 4866)))) = 0 → tg h (fR h (fR h x0 2305) 2560) = 101 ∧ vp_in ((Int64.toInt32 (aJ h (fR h x0 2307) (Int32.toNatClampNeg ((fI h x0 2310) - 1)))) + (fI h x1 4866)) (ln h (fR h (fR h x0 2305) 2560)) ∧ ((¬ (lg_cmp (aJ h (fR h (fR h x0 2305) 2560) (Int32.toNatClampNeg ((Int64.toInt32 (aJ h (fR h x0 2307) (Int32.toNatClampNeg ((fI h x0 2310) - 1)))) + (fI h x1 4866)))) (Int32.toInt64 x2)) = 0 → bX9_looks_136 G fr lo x0 x1 x2 x3 (Int64.toInt32 (aJ h (fR h x0 2307) (Int32.toNatClampNeg ((fI h x0 2310) - 1)))) ((Int64.toInt32 (aJ h (fR h x0 2307) (Int32.toNatClampNeg ((fI h x0 2310) - 1)))) + (fI h x1 4866)) h Q) ∧ ((lg_cmp (aJ h (fR h (fR h x0 2305) 2560) (Int32.toNatClampNeg ((Int64.toInt32 (aJ h (fR h x0 2307) (Int32.toNatClampNeg ((fI h x0 2310) - 1)))) + (fI h x1 4866)))) (Int32.toInt64 x2)) = 0 → Q (.returned none) h))))) ∧ (¬ (fI h x1 4869) = 0 → tg h (fR h x0 2305) = 11 ∧ tg h (fR h (fR h x0 2305) 2563) = 104 ∧ vp_in ((Int64.toInt32 (aJ h (fR h x0 2307) (Int32.toNatClampNeg ((fI h x0 2310) - 1)))) + (fI h x1 4866)) (ln h (fR h (fR h x0 2305) 2563)) ∧ ((¬ (aI h (fR h (fR h x0 2305) 2563) (Int32.toNatClampNeg ((Int64.toInt32 (aJ h (fR h x0 2307) (Int32.toNatClampNeg ((fI h x0 2310) - 1)))) + (fI h x1 4866)))) = 0 → tg h (fR h (fR h x0 2305) 2560) = 101 ∧ vp_in ((Int64.toInt32 (aJ h (fR h x0 2307) (Int32.toNatClampNeg ((fI h x0 2310) - 1)))) + (fI h x1 4866)) (ln h (fR h (fR h x0 2305) 2560)) ∧ 1 ≤ fr ∧ 15 ≤ lo ∧ xRi G YX19_choiceOf (fr - 1) (lo - 15) [rv x1, .long (aJ h (fR h (fR h x0 2305) 2560) (Int32.toNatClampNeg ((Int64.toInt32 (aJ h (fR h x0 2307) (Int32.toNatClampNeg ((fI h x0 2310) - 1)))) + (fI h x1 4866))))] h (fun x23 h22 => xext h h22 → ((x23 = x2 → bX9_looks_105 G fr lo h22 Q) ∧ (¬ x23 = x2 → 1 ≤ fr ∧ 14 ≤ lo ∧ xRv G YX9_fail (fr - 1) (lo - 14) [rv x0, .int 6, .int x3] h22 (fun h29 => xext h22 h29 → bX9_looks_105 G fr lo h29 Q) (fun r h2 => Q (.threw r) h2)))) (fun r h2 => Q (.threw r) h2)) ∧ ((aI h (fR h (fR h x0 2305) 2563) (Int32.toNatClampNeg ((Int64.toInt32 (aJ h (fR h x0 2307) (Int32.toNatClampNeg ((fI h x0 2310) - 1)))) + (fI h x1 4866)))) = 0 → 1 ≤ fr ∧ 14 ≤ lo ∧ xRv G YX9_fail (fr - 1) (lo - 14) [rv x0, .int 5, .int x3] h (fun h34 => xext h h34 → bX9_looks_105 G fr lo h34 Q) (fun r h2 => Q (.threw r) h2)))))) ∧ (¬ (fI h x0 2326) = 0 → Q (.returned none) h))
set_option maxRecDepth 100000 in
theorem uX9_looks_20 {G : xG} {fr lo : Nat} {x0 : Nat} {x1 : Nat} {x2 : Int32} {x3 : Int32} {h : xH} {Q : Outcome → xH → Prop} (hq : bX9_looks_20 G fr lo x0 x1 x2 x3 h Q) : xP G YX9_looks fr lo 20 [(0, rv x0), (1, rv x1), (2, .int x2), (3, .int x3)] [] h Q := by
  unfold bX9_looks_20 at hq
  refine x_aload_n 0 dX9_looks_20 rfl ?_
  obtain ⟨g1, hq⟩ := hq
  refine x_get (v := .int (fI h x0 2326)) fdX9_79 dX9_looks_21 g1 rfl ?_
  refine x_if_eq (tgt := 28) dX9_looks_24 (by decide) (fun c2 => ?_) (fun c2 => ?_)
  · replace hq := hq.1 c2
    refine x_aload_n 0 dX9_looks_28 rfl ?_
    refine x_get (v := rv (fR h x0 2307)) fdX9_28 dX9_looks_29 g1 rfl ?_
    refine x_aload_n 0 dX9_looks_32 rfl ?_
    refine x_get (v := .int (fI h x0 2310)) fdX9_86 dX9_looks_33 g1 rfl ?_
    refine x_iconst (v := 1) dX9_looks_36 (by decide) ?_
    refine x_isub dX9_looks_37 ?_
    obtain ⟨g3, hq⟩ := hq
    obtain ⟨i4, hq⟩ := hq
    refine x_lald g3 i4 dX9_looks_38 ?_
    refine x_l2i dX9_looks_39 ?_
    refine x_istore (lv' := [(4, .int (Int64.toInt32 (aJ h (fR h x0 2307) (Int32.toNatClampNeg ((fI h x0 2310) - 1))))), (0, rv x0), (1, rv x1), (2, .int x2), (3, .int x3)]) dX9_looks_40 (by decide) rfl ?_
    refine x_iload 0 dX9_looks_42 rfl ?_
    refine x_aload_n 2 dX9_looks_44 rfl ?_
    obtain ⟨g5, hq⟩ := hq
    refine x_getN (v := .int (fI h x1 4866)) gfX9_257 dX9_looks_45 g5 rfl ?_
    refine x_iadd dX9_looks_48 ?_
    refine x_istore (lv' := [(5, .int ((Int64.toInt32 (aJ h (fR h x0 2307) (Int32.toNatClampNeg ((fI h x0 2310) - 1)))) + (fI h x1 4866))), (4, .int (Int64.toInt32 (aJ h (fR h x0 2307) (Int32.toNatClampNeg ((fI h x0 2310) - 1))))), (0, rv x0), (1, rv x1), (2, .int x2), (3, .int x3)]) dX9_looks_49 (by decide) rfl ?_
    refine x_aload_n 3 dX9_looks_51 rfl ?_
    refine x_getN (v := .int (fI h x1 4869)) gfX9_260 dX9_looks_52 g5 rfl ?_
    refine x_if_eq (tgt := 106) dX9_looks_55 (by decide) (fun c6 => ?_) (fun c6 => ?_)
    · replace hq := hq.1 c6
      refine x_aload_n 2 dX9_looks_106 rfl ?_
      refine x_get (v := rv (fR h x0 2305)) fdX9_12 dX9_looks_107 g1 rfl ?_
      obtain ⟨g7, hq⟩ := hq
      refine x_getN (v := rv (fR h (fR h x0 2305) 2563)) gfX9_247 dX9_looks_110 g7 rfl ?_
      refine x_iload 0 dX9_looks_113 rfl ?_
      obtain ⟨g8, hq⟩ := hq
      obtain ⟨i9, hq⟩ := hq
      refine x_zald g8 i9 dX9_looks_115 ?_
      refine x_if_eq (tgt := 136) dX9_looks_116 (by decide) (fun c10 => ?_) (fun c10 => ?_)
      · replace hq := hq.1 c10
        refine xP.pick (lv' := [(0, rv x0), (1, rv x1), (2, .int x2), (3, .int x3), (4, .int (Int64.toInt32 (aJ h (fR h x0 2307) (Int32.toNatClampNeg ((fI h x0 2310) - 1))))), (5, .int ((Int64.toInt32 (aJ h (fR h x0 2307) (Int32.toNatClampNeg ((fI h x0 2310) - 1)))) + (fI h x1 4866)))]) [2, 3, 4, 5, 1, 0] rfl ?_
        exact uX9_looks_136 hq
      · replace hq := hq.2 c10
        refine x_aload_n 2 dX9_looks_119 rfl ?_
        refine x_get (v := rv (fR h x0 2305)) fdX9_12 dX9_looks_120 g1 rfl ?_
        refine x_getN (v := rv (fR h (fR h x0 2305) 2560)) gfX9_218 dX9_looks_123 g7 rfl ?_
        refine x_iload 0 dX9_looks_126 rfl ?_
        obtain ⟨g11, hq⟩ := hq
        obtain ⟨i12, hq⟩ := hq
        refine x_lald g11 i12 dX9_looks_128 ?_
        refine x_iload_n 4 dX9_looks_129 rfl ?_
        refine x_i2l dX9_looks_130 ?_
        refine x_lcmp dX9_looks_131 ?_
        refine x_if_ne (tgt := 136) dX9_looks_132 (by decide) (fun c13 => ?_) (fun c13 => ?_)
        · replace hq := hq.1 c13
          refine xP.pick (lv' := [(0, rv x0), (1, rv x1), (2, .int x2), (3, .int x3), (4, .int (Int64.toInt32 (aJ h (fR h x0 2307) (Int32.toNatClampNeg ((fI h x0 2310) - 1))))), (5, .int ((Int64.toInt32 (aJ h (fR h x0 2307) (Int32.toNatClampNeg ((fI h x0 2310) - 1)))) + (fI h x1 4866)))]) [2, 3, 4, 5, 1, 0] rfl ?_
          exact uX9_looks_136 hq
        · replace hq := hq.2 c13
          exact x_vret rfl dX9_looks_135 hq
    · replace hq := hq.2 c6
      refine x_aload_n 2 dX9_looks_58 rfl ?_
      refine x_get (v := rv (fR h x0 2305)) fdX9_12 dX9_looks_59 g1 rfl ?_
      obtain ⟨g14, hq⟩ := hq
      refine x_getN (v := rv (fR h (fR h x0 2305) 2563)) gfX9_247 dX9_looks_62 g14 rfl ?_
      refine x_iload 0 dX9_looks_65 rfl ?_
      obtain ⟨g15, hq⟩ := hq
      obtain ⟨i16, hq⟩ := hq
      refine x_zald g15 i16 dX9_looks_67 ?_
      refine x_if_ne (tgt := 80) dX9_looks_68 (by decide) (fun c17 => ?_) (fun c17 => ?_)
      · replace hq := hq.1 c17
        refine x_aload_n 3 dX9_looks_80 rfl ?_
        refine x_aload_n 2 dX9_looks_81 rfl ?_
        refine x_get (v := rv (fR h x0 2305)) fdX9_12 dX9_looks_82 g1 rfl ?_
        refine x_getN (v := rv (fR h (fR h x0 2305) 2560)) gfX9_218 dX9_looks_85 g14 rfl ?_
        refine x_iload 0 dX9_looks_88 rfl ?_
        obtain ⟨g18, hq⟩ := hq
        obtain ⟨i19, hq⟩ := hq
        refine x_lald g18 i19 dX9_looks_90 ?_
        obtain ⟨g20, g21, hq⟩ := hq
        refine x_callV (Yc := YX19_choiceOf) (as := [.long (aJ h (fR h (fR h x0 2305) 2560) (Int32.toNatClampNeg ((Int64.toInt32 (aJ h (fR h x0 2307) (Int32.toNatClampNeg ((fI h x0 2310) - 1)))) + (fI h x1 4866))))]) (st := []) q2912 mvX19_choiceOf g5 rfl dX9_looks_91 (xle (xal1 (rv_cat _) (xal2 rfl xal0)) (by decide)) (xfr g20) (xlo xsw0 (by decide) g21) (xKi hq (fun x23 h22 hq e24 => ?_) (fun _ _ q _ => q))
        replace hq := hq e24
        refine x_iload_n 4 dX9_looks_94 rfl ?_
        refine x_icmp_eq (tgt := 105) dX9_looks_95 (by decide) (fun c25 => ?_) (fun c25 => ?_)
        · replace hq := hq.1 c25
          refine xP.pick (lv' := []) [] rfl ?_
          exact uX9_looks_105 hq
        · replace hq := hq.2 c25
          refine x_aload_n 2 dX9_looks_98 rfl ?_
          refine x_bipush (v := 6) dX9_looks_99 (by decide) ?_
          refine x_iload_n 5 dX9_looks_101 rfl ?_
          have t26 : tg h22 x0 = 10 := e24.tg g1 (by decide)
          obtain ⟨g27, g28, hq⟩ := hq
          refine x_callV (Yc := YX9_fail) (as := [.int 6, .int x3]) (st := []) q2835 mvX9_fail t26 rfl dX9_looks_102 (xle (xal1 (rv_cat _) (xal1 rfl (xal1 rfl xal0))) (by decide)) (xfr g27) (xlo xsw0 (by decide) g28) (xKv hq (fun h29 hq e31 => ?_) (fun _ _ q _ => q))
          replace hq := hq e31
          refine xP.pick (lv' := []) [] rfl ?_
          exact uX9_looks_105 hq
      · replace hq := hq.2 c17
        refine x_aload_n 2 dX9_looks_71 rfl ?_
        refine x_iconst (v := 5) dX9_looks_72 (by decide) ?_
        refine x_iload_n 5 dX9_looks_73 rfl ?_
        obtain ⟨g32, g33, hq⟩ := hq
        refine x_callV (Yc := YX9_fail) (as := [.int 5, .int x3]) (st := []) q2835 mvX9_fail g1 rfl dX9_looks_74 (xle (xal1 (rv_cat _) (xal1 rfl (xal1 rfl xal0))) (by decide)) (xfr g32) (xlo xsw0 (by decide) g33) (xKv hq (fun h34 hq e36 => ?_) (fun _ _ q _ => q))
        replace hq := hq e36
        refine x_goto (tgt := 105) dX9_looks_77 (by decide) ?_
        refine xP.pick (lv' := []) [] rfl ?_
        exact uX9_looks_105 hq
  · replace hq := hq.2 c2
    exact x_vret rfl dX9_looks_27 hq
set_option maxRecDepth 100000 in
def bX9_looks (G : xG) (fr lo : Nat) (x0 : Nat) (x1 : Nat) (x2 : Int32) (x3 : Int32) (h : xH) (Q : Outcome → xH → Prop) : Prop := tg h x1 = 20 ∧ (((fR h x1 4864) = 0 → bX9_looks_20 G fr lo x0 x1 x2 x3 h Q) ∧ (¬ (fR h x1 4864) = 0 → tg h x0 = 10 ∧ 1 ≤ fr ∧ 17 ≤ lo ∧ xRv G YX9_looks (fr - 1) (lo - 17) [rv x0, rv (fR h x1 4864), .int (fI h x1 4865), .int x3] h (fun h6 => xext h h6 → bX9_looks_20 G fr lo x0 x1 x2 x3 h6 Q) (fun r h2 => Q (.threw r) h2)))
set_option maxRecDepth 100000 in
theorem uX9_looks {G : xG} {fr lo : Nat} {x0 : Nat} {x1 : Nat} {x2 : Int32} {x3 : Int32} {h : xH} {Q : Outcome → xH → Prop} (hq : bX9_looks G fr lo x0 x1 x2 x3 h Q) : xP G YX9_looks fr lo 0 [(0, rv x0), (1, rv x1), (2, .int x2), (3, .int x3)] [] h Q := by
  unfold bX9_looks at hq
  refine x_aload_n 1 dX9_looks_0 rfl ?_
  obtain ⟨g1, hq⟩ := hq
  refine x_getN (v := rv (fR h x1 4864)) gfX9_250 dX9_looks_1 g1 rfl ?_
  refine x_ifnull (tgt := 20) dX9_looks_4 (by decide) (fun c2 => ?_) (fun c2 => ?_)
  · replace hq := hq.1 c2
    exact uX9_looks_20 hq
  · replace hq := hq.2 c2
    refine x_aload_n 0 dX9_looks_7 rfl ?_
    refine x_aload_n 1 dX9_looks_8 rfl ?_
    refine x_getN (v := rv (fR h x1 4864)) gfX9_250 dX9_looks_9 g1 rfl ?_
    refine x_aload_n 1 dX9_looks_12 rfl ?_
    refine x_getN (v := .int (fI h x1 4865)) gfX9_254 dX9_looks_13 g1 rfl ?_
    refine x_iload_n 3 dX9_looks_16 rfl ?_
    obtain ⟨g3, hq⟩ := hq
    obtain ⟨g4, g5, hq⟩ := hq
    refine x_callV (Yc := YX9_looks) (as := [rv (fR h x1 4864), .int (fI h x1 4865), .int x3]) (st := []) q2908 mvX9_looks g3 rfl dX9_looks_17 (xle (xal1 (rv_cat _) (xal1 (rv_cat _) (xal1 rfl (xal1 rfl xal0)))) (by decide)) (xfr g4) (xlo xsw0 (by decide) g5) (xKv hq (fun h6 hq e8 => ?_) (fun _ _ q _ => q))
    replace hq := hq e8
    exact uX9_looks_20 hq
theorem rX9_looks {G : xG} {fr lo : Nat} {x0 : Nat} {x1 : Nat} {x2 : Int32} {x3 : Int32} {h : xH} {Q : Outcome → xH → Prop} (hq : bX9_looks G fr lo x0 x1 x2 x3 h Q) : xR G YX9_looks fr lo [rv x0, rv x1, .int x2, .int x3] h Q := by
  show xP _ _ _ _ _ (lv_args 0 _) _ _ _
  rw [show lv_args 0 [rv x0, rv x1, .int x2, .int x3] = [(0, rv x0), (1, rv x1), (2, .int x2), (3, .int x3)] from (xla1 (rv_cat _) (xla1 (rv_cat _) (xla1 rfl (xla1 rfl xla0))))]
  exact uX9_looks hq
set_option maxRecDepth 100000 in
theorem dX9_takes_0 : decode cX9_takes 0 = .ok (.iload_n 1, 1) := by decide +kernel
set_option maxRecDepth 100000 in
theorem dX9_takes_1 : decode cX9_takes 1 = .ok (.aload_n 0, 1) := by decide +kernel
set_option maxRecDepth 100000 in
theorem dX9_takes_2 : decode cX9_takes 2 = .ok (.getfield 101, 3) := by decide +kernel
set_option maxRecDepth 100000 in
theorem dX9_takes_5 : decode cX9_takes 5 = .ok (.aload_n 0, 1) := by decide +kernel
set_option maxRecDepth 100000 in
theorem dX9_takes_6 : decode cX9_takes 6 = .ok (.getfield 98, 3) := by decide +kernel
set_option maxRecDepth 100000 in
theorem dX9_takes_9 : decode cX9_takes 9 = .ok (.isub, 1) := by decide +kernel
set_option maxRecDepth 100000 in
theorem dX9_takes_10 : decode cX9_takes 10 = .ok (.if_icmp .le 12, 3) := by decide +kernel
set_option maxRecDepth 100000 in
theorem dX9_takes_13 : decode cX9_takes 13 = .ok (.aload_n 0, 1) := by decide +kernel
set_option maxRecDepth 100000 in
theorem dX9_takes_14 : decode cX9_takes 14 = .ok (.bipush 15, 2) := by decide +kernel
set_option maxRecDepth 100000 in
theorem dX9_takes_16 : decode cX9_takes 16 = .ok (.iload_n 2, 1) := by decide +kernel
set_option maxRecDepth 100000 in
theorem dX9_takes_17 : decode cX9_takes 17 = .ok (.invokevirtual 147, 3) := by decide +kernel
set_option maxRecDepth 100000 in
theorem dX9_takes_20 : decode cX9_takes 20 = .ok (.iconst 0, 1) := by decide +kernel
set_option maxRecDepth 100000 in
theorem dX9_takes_21 : decode cX9_takes 21 = .ok (.ireturn, 1) := by decide +kernel
set_option maxRecDepth 100000 in
theorem dX9_takes_22 : decode cX9_takes 22 = .ok (.aload_n 0, 1) := by decide +kernel
set_option maxRecDepth 100000 in
theorem dX9_takes_23 : decode cX9_takes 23 = .ok (.dup, 1) := by decide +kernel
set_option maxRecDepth 100000 in
theorem dX9_takes_24 : decode cX9_takes 24 = .ok (.getfield 98, 3) := by decide +kernel
set_option maxRecDepth 100000 in
theorem dX9_takes_27 : decode cX9_takes 27 = .ok (.iload_n 1, 1) := by decide +kernel
set_option maxRecDepth 100000 in
theorem dX9_takes_28 : decode cX9_takes 28 = .ok (.iadd, 1) := by decide +kernel
set_option maxRecDepth 100000 in
theorem dX9_takes_29 : decode cX9_takes 29 = .ok (.putfield 98, 3) := by decide +kernel
set_option maxRecDepth 100000 in
theorem dX9_takes_32 : decode cX9_takes 32 = .ok (.iconst 1, 1) := by decide +kernel
set_option maxRecDepth 100000 in
theorem dX9_takes_33 : decode cX9_takes 33 = .ok (.ireturn, 1) := by decide +kernel
set_option maxRecDepth 100000 in
def bX9_takes (G : xG) (fr lo : Nat) (x0 : Nat) (x1 : Int32) (x2 : Int32) (h : xH) (Q : Outcome → xH → Prop) : Prop := tg h x0 = 10 ∧ ((x1 ≤ ((fI h x0 2329) - (fI h x0 2328)) → (∀ h3 : xH, h3 = sI h x0 2328 ((fI h x0 2328) + x1) → Q (.returned (some (.int 1))) h3)) ∧ (¬ x1 ≤ ((fI h x0 2329) - (fI h x0 2328)) → 1 ≤ fr ∧ 14 ≤ lo ∧ xRv G YX9_fail (fr - 1) (lo - 14) [rv x0, .int 15, .int x2] h (fun h7 => xext h h7 → Q (.returned (some (.int 0))) h7) (fun r h2 => Q (.threw r) h2)))
set_option maxRecDepth 100000 in
theorem uX9_takes {G : xG} {fr lo : Nat} {x0 : Nat} {x1 : Int32} {x2 : Int32} {h : xH} {Q : Outcome → xH → Prop} (hq : bX9_takes G fr lo x0 x1 x2 h Q) : xP G YX9_takes fr lo 0 [(0, rv x0), (1, .int x1), (2, .int x2)] [] h Q := by
  unfold bX9_takes at hq
  refine x_iload_n 1 dX9_takes_0 rfl ?_
  refine x_aload_n 0 dX9_takes_1 rfl ?_
  obtain ⟨g1, hq⟩ := hq
  refine x_get (v := .int (fI h x0 2329)) fdX9_101 dX9_takes_2 g1 rfl ?_
  refine x_aload_n 0 dX9_takes_5 rfl ?_
  refine x_get (v := .int (fI h x0 2328)) fdX9_98 dX9_takes_6 g1 rfl ?_
  refine x_isub dX9_takes_9 ?_
  refine x_icmp_le (tgt := 22) dX9_takes_10 (by decide) (fun c2 => ?_) (fun c2 => ?_)
  · replace hq := hq.1 c2
    refine x_aload_n 0 dX9_takes_22 rfl ?_
    refine x_dup dX9_takes_23 (rv_cat _) ?_
    refine x_get (v := .int (fI h x0 2328)) fdX9_98 dX9_takes_24 g1 rfl ?_
    refine x_iload_n 1 dX9_takes_27 rfl ?_
    refine x_iadd dX9_takes_28 ?_
    obtain ⟨h3, e4⟩ : ∃ y, y = sI h x0 2328 ((fI h x0 2328) + x1) := ⟨_, rfl⟩
    replace hq := hq h3 e4
    refine x_putI fdX9_98 xty_I1 dX9_takes_29 g1 (Or.inl (by rw [g1]; rfl)) xnI rfl e4 ?_
    refine x_iconst (v := 1) dX9_takes_32 (by decide) ?_
    exact x_iret rfl rfl dX9_takes_33 hq
  · replace hq := hq.2 c2
    refine x_aload_n 0 dX9_takes_13 rfl ?_
    refine x_bipush (v := 15) dX9_takes_14 (by decide) ?_
    refine x_iload_n 2 dX9_takes_16 rfl ?_
    obtain ⟨g5, g6, hq⟩ := hq
    refine x_callV (Yc := YX9_fail) (as := [.int 15, .int x2]) (st := []) q2835 mvX9_fail g1 rfl dX9_takes_17 (xle (xal1 (rv_cat _) (xal1 rfl (xal1 rfl xal0))) (by decide)) (xfr g5) (xlo xsw0 (by decide) g6) (xKv hq (fun h7 hq e9 => ?_) (fun _ _ q _ => q))
    replace hq := hq e9
    refine x_iconst (v := 0) dX9_takes_20 (by decide) ?_
    exact x_iret rfl rfl dX9_takes_21 hq
theorem rX9_takes {G : xG} {fr lo : Nat} {x0 : Nat} {x1 : Int32} {x2 : Int32} {h : xH} {Q : Outcome → xH → Prop} (hq : bX9_takes G fr lo x0 x1 x2 h Q) : xR G YX9_takes fr lo [rv x0, .int x1, .int x2] h Q := by
  show xP _ _ _ _ _ (lv_args 0 _) _ _ _
  rw [show lv_args 0 [rv x0, .int x1, .int x2] = [(0, rv x0), (1, .int x1), (2, .int x2)] from (xla1 (rv_cat _) (xla1 rfl (xla1 rfl xla0)))]
  exact uX9_takes hq
set_option maxRecDepth 100000 in
theorem dX9_loads_0 : decode cX9_loads 0 = .ok (.aload_n 0, 1) := by decide +kernel
set_option maxRecDepth 100000 in
theorem dX9_loads_1 : decode cX9_loads 1 = .ok (.getfield 28, 3) := by decide +kernel
set_option maxRecDepth 100000 in
theorem dX9_loads_4 : decode cX9_loads 4 = .ok (.aload_n 0, 1) := by decide +kernel
set_option maxRecDepth 100000 in
theorem dX9_loads_5 : decode cX9_loads 5 = .ok (.getfield 86, 3) := by decide +kernel
set_option maxRecDepth 100000 in
theorem dX9_loads_8 : decode cX9_loads 8 = .ok (.iconst 1, 1) := by decide +kernel
set_option maxRecDepth 100000 in
theorem dX9_loads_9 : decode cX9_loads 9 = .ok (.isub, 1) := by decide +kernel
set_option maxRecDepth 100000 in
theorem dX9_loads_10 : decode cX9_loads 10 = .ok (.laload, 1) := by decide +kernel
set_option maxRecDepth 100000 in
theorem dX9_loads_11 : decode cX9_loads 11 = .ok (.l2i, 1) := by decide +kernel
set_option maxRecDepth 100000 in
theorem dX9_loads_12 : decode cX9_loads 12 = .ok (.istore_n 2, 1) := by decide +kernel
set_option maxRecDepth 100000 in
theorem dX9_loads_13 : decode cX9_loads 13 = .ok (.aload_n 0, 1) := by decide +kernel
set_option maxRecDepth 100000 in
theorem dX9_loads_14 : decode cX9_loads 14 = .ok (.getfield 12, 3) := by decide +kernel
set_option maxRecDepth 100000 in
theorem dX9_loads_17 : decode cX9_loads 17 = .ok (.getfield 247, 3) := by decide +kernel
set_option maxRecDepth 100000 in
theorem dX9_loads_20 : decode cX9_loads 20 = .ok (.iload_n 2, 1) := by decide +kernel
set_option maxRecDepth 100000 in
theorem dX9_loads_21 : decode cX9_loads 21 = .ok (.baload, 1) := by decide +kernel
set_option maxRecDepth 100000 in
theorem dX9_loads_22 : decode cX9_loads 22 = .ok (.ifCond .ne 10, 3) := by decide +kernel
set_option maxRecDepth 100000 in
theorem dX9_loads_25 : decode cX9_loads 25 = .ok (.aload_n 0, 1) := by decide +kernel
set_option maxRecDepth 100000 in
theorem dX9_loads_26 : decode cX9_loads 26 = .ok (.iconst 5, 1) := by decide +kernel
set_option maxRecDepth 100000 in
theorem dX9_loads_27 : decode cX9_loads 27 = .ok (.iload_n 1, 1) := by decide +kernel
set_option maxRecDepth 100000 in
theorem dX9_loads_28 : decode cX9_loads 28 = .ok (.invokevirtual 147, 3) := by decide +kernel
set_option maxRecDepth 100000 in
theorem dX9_loads_31 : decode cX9_loads 31 = .ok (.return_, 1) := by decide +kernel
set_option maxRecDepth 100000 in
theorem dX9_loads_32 : decode cX9_loads 32 = .ok (.aload_n 0, 1) := by decide +kernel
set_option maxRecDepth 100000 in
theorem dX9_loads_33 : decode cX9_loads 33 = .ok (.getfield 28, 3) := by decide +kernel
set_option maxRecDepth 100000 in
theorem dX9_loads_36 : decode cX9_loads 36 = .ok (.aload_n 0, 1) := by decide +kernel
set_option maxRecDepth 100000 in
theorem dX9_loads_37 : decode cX9_loads 37 = .ok (.getfield 86, 3) := by decide +kernel
set_option maxRecDepth 100000 in
theorem dX9_loads_40 : decode cX9_loads 40 = .ok (.iconst 1, 1) := by decide +kernel
set_option maxRecDepth 100000 in
theorem dX9_loads_41 : decode cX9_loads 41 = .ok (.isub, 1) := by decide +kernel
set_option maxRecDepth 100000 in
theorem dX9_loads_42 : decode cX9_loads 42 = .ok (.aload_n 0, 1) := by decide +kernel
set_option maxRecDepth 100000 in
theorem dX9_loads_43 : decode cX9_loads 43 = .ok (.getfield 12, 3) := by decide +kernel
set_option maxRecDepth 100000 in
theorem dX9_loads_46 : decode cX9_loads 46 = .ok (.getfield 218, 3) := by decide +kernel
set_option maxRecDepth 100000 in
theorem dX9_loads_49 : decode cX9_loads 49 = .ok (.iload_n 2, 1) := by decide +kernel
set_option maxRecDepth 100000 in
theorem dX9_loads_50 : decode cX9_loads 50 = .ok (.laload, 1) := by decide +kernel
set_option maxRecDepth 100000 in
theorem dX9_loads_51 : decode cX9_loads 51 = .ok (.lastore, 1) := by decide +kernel
set_option maxRecDepth 100000 in
theorem dX9_loads_52 : decode cX9_loads 52 = .ok (.aload_n 0, 1) := by decide +kernel
set_option maxRecDepth 100000 in
theorem dX9_loads_53 : decode cX9_loads 53 = .ok (.getfield 32, 3) := by decide +kernel
set_option maxRecDepth 100000 in
theorem dX9_loads_56 : decode cX9_loads 56 = .ok (.aload_n 0, 1) := by decide +kernel
set_option maxRecDepth 100000 in
theorem dX9_loads_57 : decode cX9_loads 57 = .ok (.getfield 86, 3) := by decide +kernel
set_option maxRecDepth 100000 in
theorem dX9_loads_60 : decode cX9_loads 60 = .ok (.iconst 1, 1) := by decide +kernel
set_option maxRecDepth 100000 in
theorem dX9_loads_61 : decode cX9_loads 61 = .ok (.isub, 1) := by decide +kernel
set_option maxRecDepth 100000 in
theorem dX9_loads_62 : decode cX9_loads 62 = .ok (.aload_n 0, 1) := by decide +kernel
set_option maxRecDepth 100000 in
theorem dX9_loads_63 : decode cX9_loads 63 = .ok (.getfield 12, 3) := by decide +kernel
set_option maxRecDepth 100000 in
theorem dX9_loads_66 : decode cX9_loads 66 = .ok (.getfield 277, 3) := by decide +kernel
set_option maxRecDepth 100000 in
theorem dX9_loads_69 : decode cX9_loads 69 = .ok (.iload_n 2, 1) := by decide +kernel
set_option maxRecDepth 100000 in
theorem dX9_loads_70 : decode cX9_loads 70 = .ok (.laload, 1) := by decide +kernel
set_option maxRecDepth 100000 in
theorem dX9_loads_71 : decode cX9_loads 71 = .ok (.lastore, 1) := by decide +kernel
set_option maxRecDepth 100000 in
theorem dX9_loads_72 : decode cX9_loads 72 = .ok (.aload_n 0, 1) := by decide +kernel
set_option maxRecDepth 100000 in
theorem dX9_loads_73 : decode cX9_loads 73 = .ok (.getfield 35, 3) := by decide +kernel
set_option maxRecDepth 100000 in
theorem dX9_loads_76 : decode cX9_loads 76 = .ok (.aload_n 0, 1) := by decide +kernel
set_option maxRecDepth 100000 in
theorem dX9_loads_77 : decode cX9_loads 77 = .ok (.getfield 86, 3) := by decide +kernel
set_option maxRecDepth 100000 in
theorem dX9_loads_80 : decode cX9_loads 80 = .ok (.iconst 1, 1) := by decide +kernel
set_option maxRecDepth 100000 in
theorem dX9_loads_81 : decode cX9_loads 81 = .ok (.isub, 1) := by decide +kernel
set_option maxRecDepth 100000 in
theorem dX9_loads_82 : decode cX9_loads 82 = .ok (.aload_n 0, 1) := by decide +kernel
set_option maxRecDepth 100000 in
theorem dX9_loads_83 : decode cX9_loads 83 = .ok (.getfield 12, 3) := by decide +kernel
set_option maxRecDepth 100000 in
theorem dX9_loads_86 : decode cX9_loads 86 = .ok (.getfield 278, 3) := by decide +kernel
set_option maxRecDepth 100000 in
theorem dX9_loads_89 : decode cX9_loads 89 = .ok (.iload_n 2, 1) := by decide +kernel
set_option maxRecDepth 100000 in
theorem dX9_loads_90 : decode cX9_loads 90 = .ok (.daload, 1) := by decide +kernel
set_option maxRecDepth 100000 in
theorem dX9_loads_91 : decode cX9_loads 91 = .ok (.dastore, 1) := by decide +kernel
set_option maxRecDepth 100000 in
theorem dX9_loads_92 : decode cX9_loads 92 = .ok (.return_, 1) := by decide +kernel
set_option maxRecDepth 100000 in
def bX9_loads (G : xG) (fr lo : Nat) (x0 : Nat) (x1 : Int32) (h : xH) (Q : Outcome → xH → Prop) : Prop := tg h x0 = 10 ∧ tg h (fR h x0 2307) = 101 ∧ vp_in ((fI h x0 2310) - 1) (ln h (fR h x0 2307)) ∧ tg h (fR h x0 2305) = 11 ∧ tg h (fR h (fR h x0 2305) 2563) = 104 ∧ vp_in (Int64.toInt32 (aJ h (fR h x0 2307) (Int32.toNatClampNeg ((fI h x0 2310) - 1)))) (ln h (fR h (fR h x0 2305) 2563)) ∧ ((¬ (aI h (fR h (fR h x0 2305) 2563) (Int32.toNatClampNeg (Int64.toInt32 (aJ h (fR h x0 2307) (Int32.toNatClampNeg ((fI h x0 2310) - 1)))))) = 0 → tg h (fR h (fR h x0 2305) 2560) = 101 ∧ vp_in (Int64.toInt32 (aJ h (fR h x0 2307) (Int32.toNatClampNeg ((fI h x0 2310) - 1)))) (ln h (fR h (fR h x0 2305) 2560)) ∧ vp_in ((fI h x0 2310) - 1) (ln h (fR h x0 2307)) ∧ (∀ h11 : xH, h11 = tJ h (fR h x0 2307) (Int32.toNatClampNeg ((fI h x0 2310) - 1)) (aJ h (fR h (fR h x0 2305) 2560) (Int32.toNatClampNeg (Int64.toInt32 (aJ h (fR h x0 2307) (Int32.toNatClampNeg ((fI h x0 2310) - 1)))))) → tg h11 (fR h11 x0 2305) = 11 ∧ tg h11 (fR h11 (fR h11 x0 2305) 2561) = 101 ∧ vp_in (Int64.toInt32 (aJ h (fR h x0 2307) (Int32.toNatClampNeg ((fI h x0 2310) - 1)))) (ln h11 (fR h11 (fR h11 x0 2305) 2561)) ∧ tg h11 (fR h11 x0 2308) = 101 ∧ vp_in ((fI h11 x0 2310) - 1) (ln h11 (fR h11 x0 2308)) ∧ (∀ h19 : xH, h19 = tJ h11 (fR h11 x0 2308) (Int32.toNatClampNeg ((fI h11 x0 2310) - 1)) (aJ h11 (fR h11 (fR h11 x0 2305) 2561) (Int32.toNatClampNeg (Int64.toInt32 (aJ h (fR h x0 2307) (Int32.toNatClampNeg ((fI h x0 2310) - 1)))))) → tg h19 (fR h19 x0 2305) = 11 ∧ tg h19 (fR h19 (fR h19 x0 2305) 2562) = 102 ∧ vp_in (Int64.toInt32 (aJ h (fR h x0 2307) (Int32.toNatClampNeg ((fI h x0 2310) - 1)))) (ln h19 (fR h19 (fR h19 x0 2305) 2562)) ∧ tg h19 (fR h19 x0 2309) = 102 ∧ vp_in ((fI h19 x0 2310) - 1) (ln h19 (fR h19 x0 2309)) ∧ (∀ h27 : xH, h27 = tD h19 (fR h19 x0 2309) (Int32.toNatClampNeg ((fI h19 x0 2310) - 1)) (aD h19 (fR h19 (fR h19 x0 2305) 2562) (Int32.toNatClampNeg (Int64.toInt32 (aJ h (fR h x0 2307) (Int32.toNatClampNeg ((fI h x0 2310) - 1)))))) → Q (.returned none) h27)))) ∧ ((aI h (fR h (fR h x0 2305) 2563) (Int32.toNatClampNeg (Int64.toInt32 (aJ h (fR h x0 2307) (Int32.toNatClampNeg ((fI h x0 2310) - 1)))))) = 0 → 1 ≤ fr ∧ 14 ≤ lo ∧ xRv G YX9_fail (fr - 1) (lo - 14) [rv x0, .int 5, .int x1] h (fun h31 => xext h h31 → Q (.returned none) h31) (fun r h2 => Q (.threw r) h2)))
set_option maxRecDepth 100000 in
theorem uX9_loads {G : xG} {fr lo : Nat} {x0 : Nat} {x1 : Int32} {h : xH} {Q : Outcome → xH → Prop} (hq : bX9_loads G fr lo x0 x1 h Q) : xP G YX9_loads fr lo 0 [(0, rv x0), (1, .int x1)] [] h Q := by
  unfold bX9_loads at hq
  refine x_aload_n 0 dX9_loads_0 rfl ?_
  obtain ⟨g1, hq⟩ := hq
  refine x_get (v := rv (fR h x0 2307)) fdX9_28 dX9_loads_1 g1 rfl ?_
  refine x_aload_n 0 dX9_loads_4 rfl ?_
  refine x_get (v := .int (fI h x0 2310)) fdX9_86 dX9_loads_5 g1 rfl ?_
  refine x_iconst (v := 1) dX9_loads_8 (by decide) ?_
  refine x_isub dX9_loads_9 ?_
  obtain ⟨g2, hq⟩ := hq
  obtain ⟨i3, hq⟩ := hq
  refine x_lald g2 i3 dX9_loads_10 ?_
  refine x_l2i dX9_loads_11 ?_
  refine x_istore_n (lv' := [(2, .int (Int64.toInt32 (aJ h (fR h x0 2307) (Int32.toNatClampNeg ((fI h x0 2310) - 1))))), (0, rv x0), (1, .int x1)]) dX9_loads_12 (by decide) rfl ?_
  refine x_aload_n 1 dX9_loads_13 rfl ?_
  refine x_get (v := rv (fR h x0 2305)) fdX9_12 dX9_loads_14 g1 rfl ?_
  obtain ⟨g4, hq⟩ := hq
  refine x_getN (v := rv (fR h (fR h x0 2305) 2563)) gfX9_247 dX9_loads_17 g4 rfl ?_
  refine x_iload_n 0 dX9_loads_20 rfl ?_
  obtain ⟨g5, hq⟩ := hq
  obtain ⟨i6, hq⟩ := hq
  refine x_zald g5 i6 dX9_loads_21 ?_
  refine x_if_ne (tgt := 32) dX9_loads_22 (by decide) (fun c7 => ?_) (fun c7 => ?_)
  · replace hq := hq.1 c7
    refine x_aload_n 1 dX9_loads_32 rfl ?_
    refine x_get (v := rv (fR h x0 2307)) fdX9_28 dX9_loads_33 g1 rfl ?_
    refine x_aload_n 1 dX9_loads_36 rfl ?_
    refine x_get (v := .int (fI h x0 2310)) fdX9_86 dX9_loads_37 g1 rfl ?_
    refine x_iconst (v := 1) dX9_loads_40 (by decide) ?_
    refine x_isub dX9_loads_41 ?_
    refine x_aload_n 1 dX9_loads_42 rfl ?_
    refine x_get (v := rv (fR h x0 2305)) fdX9_12 dX9_loads_43 g1 rfl ?_
    refine x_getN (v := rv (fR h (fR h x0 2305) 2560)) gfX9_218 dX9_loads_46 g4 rfl ?_
    refine x_iload_n 0 dX9_loads_49 rfl ?_
    obtain ⟨g8, hq⟩ := hq
    obtain ⟨i9, hq⟩ := hq
    refine x_lald g8 i9 dX9_loads_50 ?_
    obtain ⟨i10, hq⟩ := hq
    obtain ⟨h11, e12⟩ : ∃ y, y = tJ h (fR h x0 2307) (Int32.toNatClampNeg ((fI h x0 2310) - 1)) (aJ h (fR h (fR h x0 2305) 2560) (Int32.toNatClampNeg (Int64.toInt32 (aJ h (fR h x0 2307) (Int32.toNatClampNeg ((fI h x0 2310) - 1)))))) := ⟨_, rfl⟩
    replace hq := hq h11 e12
    refine x_last' g2 i10 dX9_loads_51 e12 ?_
    refine x_aload_n 1 dX9_loads_52 rfl ?_
    have t13 : tg h11 x0 = 10 := by rw [e12]; exact g1
    refine x_get (v := rv (fR h11 x0 2308)) fdX9_32 dX9_loads_53 t13 rfl ?_
    refine x_aload_n 1 dX9_loads_56 rfl ?_
    refine x_get (v := .int (fI h11 x0 2310)) fdX9_86 dX9_loads_57 t13 rfl ?_
    refine x_iconst (v := 1) dX9_loads_60 (by decide) ?_
    refine x_isub dX9_loads_61 ?_
    refine x_aload_n 1 dX9_loads_62 rfl ?_
    refine x_get (v := rv (fR h11 x0 2305)) fdX9_12 dX9_loads_63 t13 rfl ?_
    obtain ⟨g14, hq⟩ := hq
    refine x_getN (v := rv (fR h11 (fR h11 x0 2305) 2561)) gfX9_277 dX9_loads_66 g14 rfl ?_
    refine x_iload_n 0 dX9_loads_69 rfl ?_
    obtain ⟨g15, hq⟩ := hq
    obtain ⟨i16, hq⟩ := hq
    refine x_lald g15 i16 dX9_loads_70 ?_
    obtain ⟨g17, hq⟩ := hq
    obtain ⟨i18, hq⟩ := hq
    obtain ⟨h19, e20⟩ : ∃ y, y = tJ h11 (fR h11 x0 2308) (Int32.toNatClampNeg ((fI h11 x0 2310) - 1)) (aJ h11 (fR h11 (fR h11 x0 2305) 2561) (Int32.toNatClampNeg (Int64.toInt32 (aJ h (fR h x0 2307) (Int32.toNatClampNeg ((fI h x0 2310) - 1)))))) := ⟨_, rfl⟩
    replace hq := hq h19 e20
    refine x_last' g17 i18 dX9_loads_71 e20 ?_
    refine x_aload_n 1 dX9_loads_72 rfl ?_
    have t21 : tg h19 x0 = 10 := by rw [e20]; exact t13
    refine x_get (v := rv (fR h19 x0 2309)) fdX9_35 dX9_loads_73 t21 rfl ?_
    refine x_aload_n 1 dX9_loads_76 rfl ?_
    refine x_get (v := .int (fI h19 x0 2310)) fdX9_86 dX9_loads_77 t21 rfl ?_
    refine x_iconst (v := 1) dX9_loads_80 (by decide) ?_
    refine x_isub dX9_loads_81 ?_
    refine x_aload_n 1 dX9_loads_82 rfl ?_
    refine x_get (v := rv (fR h19 x0 2305)) fdX9_12 dX9_loads_83 t21 rfl ?_
    obtain ⟨g22, hq⟩ := hq
    refine x_getN (v := rv (fR h19 (fR h19 x0 2305) 2562)) gfX9_278 dX9_loads_86 g22 rfl ?_
    refine x_iload_n 0 dX9_loads_89 rfl ?_
    obtain ⟨g23, hq⟩ := hq
    obtain ⟨i24, hq⟩ := hq
    refine x_dald g23 i24 dX9_loads_90 ?_
    obtain ⟨g25, hq⟩ := hq
    obtain ⟨i26, hq⟩ := hq
    obtain ⟨h27, e28⟩ : ∃ y, y = tD h19 (fR h19 x0 2309) (Int32.toNatClampNeg ((fI h19 x0 2310) - 1)) (aD h19 (fR h19 (fR h19 x0 2305) 2562) (Int32.toNatClampNeg (Int64.toInt32 (aJ h (fR h x0 2307) (Int32.toNatClampNeg ((fI h x0 2310) - 1)))))) := ⟨_, rfl⟩
    replace hq := hq h27 e28
    refine x_dast' g25 i26 dX9_loads_91 e28 ?_
    exact x_vret rfl dX9_loads_92 hq
  · replace hq := hq.2 c7
    refine x_aload_n 1 dX9_loads_25 rfl ?_
    refine x_iconst (v := 5) dX9_loads_26 (by decide) ?_
    refine x_iload_n 2 dX9_loads_27 rfl ?_
    obtain ⟨g29, g30, hq⟩ := hq
    refine x_callV (Yc := YX9_fail) (as := [.int 5, .int x1]) (st := []) q2835 mvX9_fail g1 rfl dX9_loads_28 (xle (xal1 (rv_cat _) (xal1 rfl (xal1 rfl xal0))) (by decide)) (xfr g29) (xlo xsw0 (by decide) g30) (xKv hq (fun h31 hq e33 => ?_) (fun _ _ q _ => q))
    replace hq := hq e33
    exact x_vret rfl dX9_loads_31 hq
theorem rX9_loads {G : xG} {fr lo : Nat} {x0 : Nat} {x1 : Int32} {h : xH} {Q : Outcome → xH → Prop} (hq : bX9_loads G fr lo x0 x1 h Q) : xR G YX9_loads fr lo [rv x0, .int x1] h Q := by
  show xP _ _ _ _ _ (lv_args 0 _) _ _ _
  rw [show lv_args 0 [rv x0, .int x1] = [(0, rv x0), (1, .int x1)] from (xla1 (rv_cat _) (xla1 rfl xla0))]
  exact uX9_loads hq
set_option maxRecDepth 100000 in
theorem dX9_stores_0 : decode cX9_stores 0 = .ok (.aload_n 0, 1) := by decide +kernel
set_option maxRecDepth 100000 in
theorem dX9_stores_1 : decode cX9_stores 1 = .ok (.dup, 1) := by decide +kernel
set_option maxRecDepth 100000 in
theorem dX9_stores_2 : decode cX9_stores 2 = .ok (.getfield 86, 3) := by decide +kernel
set_option maxRecDepth 100000 in
theorem dX9_stores_5 : decode cX9_stores 5 = .ok (.iconst 2, 1) := by decide +kernel
set_option maxRecDepth 100000 in
theorem dX9_stores_6 : decode cX9_stores 6 = .ok (.isub, 1) := by decide +kernel
set_option maxRecDepth 100000 in
theorem dX9_stores_7 : decode cX9_stores 7 = .ok (.putfield 86, 3) := by decide +kernel
set_option maxRecDepth 100000 in
theorem dX9_stores_10 : decode cX9_stores 10 = .ok (.aload_n 0, 1) := by decide +kernel
set_option maxRecDepth 100000 in
theorem dX9_stores_11 : decode cX9_stores 11 = .ok (.getfield 28, 3) := by decide +kernel
set_option maxRecDepth 100000 in
theorem dX9_stores_14 : decode cX9_stores 14 = .ok (.aload_n 0, 1) := by decide +kernel
set_option maxRecDepth 100000 in
theorem dX9_stores_15 : decode cX9_stores 15 = .ok (.getfield 86, 3) := by decide +kernel
set_option maxRecDepth 100000 in
theorem dX9_stores_18 : decode cX9_stores 18 = .ok (.laload, 1) := by decide +kernel
set_option maxRecDepth 100000 in
theorem dX9_stores_19 : decode cX9_stores 19 = .ok (.l2i, 1) := by decide +kernel
set_option maxRecDepth 100000 in
theorem dX9_stores_20 : decode cX9_stores 20 = .ok (.istore 4, 2) := by decide +kernel
set_option maxRecDepth 100000 in
theorem dX9_stores_22 : decode cX9_stores 22 = .ok (.iload_n 1, 1) := by decide +kernel
set_option maxRecDepth 100000 in
theorem dX9_stores_23 : decode cX9_stores 23 = .ok (.bipush 15, 2) := by decide +kernel
set_option maxRecDepth 100000 in
theorem dX9_stores_25 : decode cX9_stores 25 = .ok (.if_icmp .ne 26, 3) := by decide +kernel
set_option maxRecDepth 100000 in
theorem dX9_stores_28 : decode cX9_stores 28 = .ok (.aload_n 0, 1) := by decide +kernel
set_option maxRecDepth 100000 in
theorem dX9_stores_29 : decode cX9_stores 29 = .ok (.getfield 12, 3) := by decide +kernel
set_option maxRecDepth 100000 in
theorem dX9_stores_32 : decode cX9_stores 32 = .ok (.aload_n 0, 1) := by decide +kernel
set_option maxRecDepth 100000 in
theorem dX9_stores_33 : decode cX9_stores 33 = .ok (.getfield 28, 3) := by decide +kernel
set_option maxRecDepth 100000 in
theorem dX9_stores_36 : decode cX9_stores 36 = .ok (.aload_n 0, 1) := by decide +kernel
set_option maxRecDepth 100000 in
theorem dX9_stores_37 : decode cX9_stores 37 = .ok (.getfield 86, 3) := by decide +kernel
set_option maxRecDepth 100000 in
theorem dX9_stores_40 : decode cX9_stores 40 = .ok (.iconst 1, 1) := by decide +kernel
set_option maxRecDepth 100000 in
theorem dX9_stores_41 : decode cX9_stores 41 = .ok (.iadd, 1) := by decide +kernel
set_option maxRecDepth 100000 in
theorem dX9_stores_42 : decode cX9_stores 42 = .ok (.laload, 1) := by decide +kernel
set_option maxRecDepth 100000 in
theorem dX9_stores_43 : decode cX9_stores 43 = .ok (.l2i, 1) := by decide +kernel
set_option maxRecDepth 100000 in
theorem dX9_stores_44 : decode cX9_stores 44 = .ok (.iload 4, 2) := by decide +kernel
set_option maxRecDepth 100000 in
theorem dX9_stores_46 : decode cX9_stores 46 = .ok (.iload_n 2, 1) := by decide +kernel
set_option maxRecDepth 100000 in
theorem dX9_stores_47 : decode cX9_stores 47 = .ok (.invokevirtual 279, 3) := by decide +kernel
set_option maxRecDepth 100000 in
theorem dX9_stores_50 : decode cX9_stores 50 = .ok (.return_, 1) := by decide +kernel
set_option maxRecDepth 100000 in
theorem dX9_stores_51 : decode cX9_stores 51 = .ok (.iload_n 1, 1) := by decide +kernel
set_option maxRecDepth 100000 in
theorem dX9_stores_52 : decode cX9_stores 52 = .ok (.bipush 16, 2) := by decide +kernel
set_option maxRecDepth 100000 in
theorem dX9_stores_54 : decode cX9_stores 54 = .ok (.if_icmp .ne 113, 3) := by decide +kernel
set_option maxRecDepth 100000 in
theorem dX9_stores_57 : decode cX9_stores 57 = .ok (.aload_n 0, 1) := by decide +kernel
set_option maxRecDepth 100000 in
theorem dX9_stores_58 : decode cX9_stores 58 = .ok (.getfield 75, 3) := by decide +kernel
set_option maxRecDepth 100000 in
theorem dX9_stores_61 : decode cX9_stores 61 = .ok (.getfield 231, 3) := by decide +kernel
set_option maxRecDepth 100000 in
theorem dX9_stores_64 : decode cX9_stores 64 = .ok (.iload_n 2, 1) := by decide +kernel
set_option maxRecDepth 100000 in
theorem dX9_stores_65 : decode cX9_stores 65 = .ok (.invokevirtual 166, 3) := by decide +kernel
set_option maxRecDepth 100000 in
theorem dX9_stores_68 : decode cX9_stores 68 = .ok (.checkcast 234, 3) := by decide +kernel
set_option maxRecDepth 100000 in
theorem dX9_stores_71 : decode cX9_stores 71 = .ok (.astore 5, 2) := by decide +kernel
set_option maxRecDepth 100000 in
theorem dX9_stores_73 : decode cX9_stores 73 = .ok (.iload 4, 2) := by decide +kernel
set_option maxRecDepth 100000 in
theorem dX9_stores_75 : decode cX9_stores 75 = .ok (.aload 5, 2) := by decide +kernel
set_option maxRecDepth 100000 in
theorem dX9_stores_77 : decode cX9_stores 77 = .ok (.getfield 257, 3) := by decide +kernel
set_option maxRecDepth 100000 in
theorem dX9_stores_80 : decode cX9_stores 80 = .ok (.isub, 1) := by decide +kernel
set_option maxRecDepth 100000 in
theorem dX9_stores_81 : decode cX9_stores 81 = .ok (.istore 6, 2) := by decide +kernel
set_option maxRecDepth 100000 in
theorem dX9_stores_83 : decode cX9_stores 83 = .ok (.aload_n 0, 1) := by decide +kernel
set_option maxRecDepth 100000 in
theorem dX9_stores_84 : decode cX9_stores 84 = .ok (.getfield 12, 3) := by decide +kernel
set_option maxRecDepth 100000 in
theorem dX9_stores_87 : decode cX9_stores 87 = .ok (.getfield 247, 3) := by decide +kernel
set_option maxRecDepth 100000 in
theorem dX9_stores_90 : decode cX9_stores 90 = .ok (.iload 4, 2) := by decide +kernel
set_option maxRecDepth 100000 in
theorem dX9_stores_92 : decode cX9_stores 92 = .ok (.baload, 1) := by decide +kernel
set_option maxRecDepth 100000 in
theorem dX9_stores_93 : decode cX9_stores 93 = .ok (.ifCond .eq 21, 3) := by decide +kernel
set_option maxRecDepth 100000 in
theorem dX9_stores_96 : decode cX9_stores 96 = .ok (.aload 5, 2) := by decide +kernel
set_option maxRecDepth 100000 in
theorem dX9_stores_98 : decode cX9_stores 98 = .ok (.aload_n 0, 1) := by decide +kernel
set_option maxRecDepth 100000 in
theorem dX9_stores_99 : decode cX9_stores 99 = .ok (.getfield 12, 3) := by decide +kernel
set_option maxRecDepth 100000 in
theorem dX9_stores_102 : decode cX9_stores 102 = .ok (.getfield 218, 3) := by decide +kernel
set_option maxRecDepth 100000 in
theorem dX9_stores_105 : decode cX9_stores 105 = .ok (.iload 4, 2) := by decide +kernel
set_option maxRecDepth 100000 in
theorem dX9_stores_107 : decode cX9_stores 107 = .ok (.laload, 1) := by decide +kernel
set_option maxRecDepth 100000 in
theorem dX9_stores_108 : decode cX9_stores 108 = .ok (.invokevirtual 263, 3) := by decide +kernel
set_option maxRecDepth 100000 in
theorem dX9_stores_111 : decode cX9_stores 111 = .ok (.goto 4, 3) := by decide +kernel
set_option maxRecDepth 100000 in
theorem dX9_stores_114 : decode cX9_stores 114 = .ok (.iconst (-1), 1) := by decide +kernel
set_option maxRecDepth 100000 in
theorem dX9_stores_115 : decode cX9_stores 115 = .ok (.istore 7, 2) := by decide +kernel
set_option maxRecDepth 100000 in
theorem dX9_stores_117 : decode cX9_stores 117 = .ok (.iload 7, 2) := by decide +kernel
set_option maxRecDepth 100000 in
theorem dX9_stores_119 : decode cX9_stores 119 = .ok (.iconst (-1), 1) := by decide +kernel
set_option maxRecDepth 100000 in
theorem dX9_stores_120 : decode cX9_stores 120 = .ok (.if_icmp .eq 24, 3) := by decide +kernel
set_option maxRecDepth 100000 in
theorem dX9_stores_123 : decode cX9_stores 123 = .ok (.iload 7, 2) := by decide +kernel
set_option maxRecDepth 100000 in
theorem dX9_stores_125 : decode cX9_stores 125 = .ok (.aload 5, 2) := by decide +kernel
set_option maxRecDepth 100000 in
theorem dX9_stores_127 : decode cX9_stores 127 = .ok (.aload_n 0, 1) := by decide +kernel
set_option maxRecDepth 100000 in
theorem dX9_stores_128 : decode cX9_stores 128 = .ok (.getfield 28, 3) := by decide +kernel
set_option maxRecDepth 100000 in
theorem dX9_stores_131 : decode cX9_stores 131 = .ok (.aload_n 0, 1) := by decide +kernel
set_option maxRecDepth 100000 in
theorem dX9_stores_132 : decode cX9_stores 132 = .ok (.getfield 86, 3) := by decide +kernel
set_option maxRecDepth 100000 in
theorem dX9_stores_135 : decode cX9_stores 135 = .ok (.iconst 1, 1) := by decide +kernel
set_option maxRecDepth 100000 in
theorem dX9_stores_136 : decode cX9_stores 136 = .ok (.iadd, 1) := by decide +kernel
set_option maxRecDepth 100000 in
theorem dX9_stores_137 : decode cX9_stores 137 = .ok (.laload, 1) := by decide +kernel
set_option maxRecDepth 100000 in
theorem dX9_stores_138 : decode cX9_stores 138 = .ok (.invokevirtual 263, 3) := by decide +kernel
set_option maxRecDepth 100000 in
theorem dX9_stores_141 : decode cX9_stores 141 = .ok (.if_icmp .eq 26, 3) := by decide +kernel
set_option maxRecDepth 100000 in
theorem dX9_stores_144 : decode cX9_stores 144 = .ok (.aload_n 0, 1) := by decide +kernel
set_option maxRecDepth 100000 in
theorem dX9_stores_145 : decode cX9_stores 145 = .ok (.getfield 12, 3) := by decide +kernel
set_option maxRecDepth 100000 in
theorem dX9_stores_148 : decode cX9_stores 148 = .ok (.iload 6, 2) := by decide +kernel
set_option maxRecDepth 100000 in
theorem dX9_stores_150 : decode cX9_stores 150 = .ok (.aload 5, 2) := by decide +kernel
set_option maxRecDepth 100000 in
theorem dX9_stores_152 : decode cX9_stores 152 = .ok (.getfield 270, 3) := by decide +kernel
set_option maxRecDepth 100000 in
theorem dX9_stores_155 : decode cX9_stores 155 = .ok (.iadd, 1) := by decide +kernel
set_option maxRecDepth 100000 in
theorem dX9_stores_156 : decode cX9_stores 156 = .ok (.iload 6, 2) := by decide +kernel
set_option maxRecDepth 100000 in
theorem dX9_stores_158 : decode cX9_stores 158 = .ok (.aload 5, 2) := by decide +kernel
set_option maxRecDepth 100000 in
theorem dX9_stores_160 : decode cX9_stores 160 = .ok (.getfield 267, 3) := by decide +kernel
set_option maxRecDepth 100000 in
theorem dX9_stores_163 : decode cX9_stores 163 = .ok (.iadd, 1) := by decide +kernel
set_option maxRecDepth 100000 in
theorem dX9_stores_164 : decode cX9_stores 164 = .ok (.invokevirtual 155, 3) := by decide +kernel
set_option maxRecDepth 100000 in
theorem dX9_stores_167 : decode cX9_stores 167 = .ok (.aload_n 0, 1) := by decide +kernel
set_option maxRecDepth 100000 in
theorem dX9_stores_168 : decode cX9_stores 168 = .ok (.getfield 12, 3) := by decide +kernel
set_option maxRecDepth 100000 in
theorem dX9_stores_171 : decode cX9_stores 171 = .ok (.getfield 218, 3) := by decide +kernel
set_option maxRecDepth 100000 in
theorem dX9_stores_174 : decode cX9_stores 174 = .ok (.iload 4, 2) := by decide +kernel
set_option maxRecDepth 100000 in
theorem dX9_stores_176 : decode cX9_stores 176 = .ok (.aload_n 0, 1) := by decide +kernel
set_option maxRecDepth 100000 in
theorem dX9_stores_177 : decode cX9_stores 177 = .ok (.getfield 28, 3) := by decide +kernel
set_option maxRecDepth 100000 in
theorem dX9_stores_180 : decode cX9_stores 180 = .ok (.aload_n 0, 1) := by decide +kernel
set_option maxRecDepth 100000 in
theorem dX9_stores_181 : decode cX9_stores 181 = .ok (.getfield 86, 3) := by decide +kernel
set_option maxRecDepth 100000 in
theorem dX9_stores_184 : decode cX9_stores 184 = .ok (.iconst 1, 1) := by decide +kernel
set_option maxRecDepth 100000 in
theorem dX9_stores_185 : decode cX9_stores 185 = .ok (.iadd, 1) := by decide +kernel
set_option maxRecDepth 100000 in
theorem dX9_stores_186 : decode cX9_stores 186 = .ok (.laload, 1) := by decide +kernel
set_option maxRecDepth 100000 in
theorem dX9_stores_187 : decode cX9_stores 187 = .ok (.lastore, 1) := by decide +kernel
set_option maxRecDepth 100000 in
theorem dX9_stores_188 : decode cX9_stores 188 = .ok (.aload_n 0, 1) := by decide +kernel
set_option maxRecDepth 100000 in
theorem dX9_stores_189 : decode cX9_stores 189 = .ok (.getfield 12, 3) := by decide +kernel
set_option maxRecDepth 100000 in
theorem dX9_stores_192 : decode cX9_stores 192 = .ok (.getfield 277, 3) := by decide +kernel
set_option maxRecDepth 100000 in
theorem dX9_stores_195 : decode cX9_stores 195 = .ok (.iload 4, 2) := by decide +kernel
set_option maxRecDepth 100000 in
theorem dX9_stores_197 : decode cX9_stores 197 = .ok (.aload_n 0, 1) := by decide +kernel
set_option maxRecDepth 100000 in
theorem dX9_stores_198 : decode cX9_stores 198 = .ok (.getfield 32, 3) := by decide +kernel
set_option maxRecDepth 100000 in
theorem dX9_stores_201 : decode cX9_stores 201 = .ok (.aload_n 0, 1) := by decide +kernel
set_option maxRecDepth 100000 in
theorem dX9_stores_202 : decode cX9_stores 202 = .ok (.getfield 86, 3) := by decide +kernel
set_option maxRecDepth 100000 in
theorem dX9_stores_205 : decode cX9_stores 205 = .ok (.iconst 1, 1) := by decide +kernel
set_option maxRecDepth 100000 in
theorem dX9_stores_206 : decode cX9_stores 206 = .ok (.iadd, 1) := by decide +kernel
set_option maxRecDepth 100000 in
theorem dX9_stores_207 : decode cX9_stores 207 = .ok (.laload, 1) := by decide +kernel
set_option maxRecDepth 100000 in
theorem dX9_stores_208 : decode cX9_stores 208 = .ok (.lastore, 1) := by decide +kernel
set_option maxRecDepth 100000 in
theorem dX9_stores_209 : decode cX9_stores 209 = .ok (.aload_n 0, 1) := by decide +kernel
set_option maxRecDepth 100000 in
theorem dX9_stores_210 : decode cX9_stores 210 = .ok (.getfield 12, 3) := by decide +kernel
set_option maxRecDepth 100000 in
theorem dX9_stores_213 : decode cX9_stores 213 = .ok (.getfield 278, 3) := by decide +kernel
set_option maxRecDepth 100000 in
theorem dX9_stores_216 : decode cX9_stores 216 = .ok (.iload 4, 2) := by decide +kernel
set_option maxRecDepth 100000 in
theorem dX9_stores_218 : decode cX9_stores 218 = .ok (.aload_n 0, 1) := by decide +kernel
set_option maxRecDepth 100000 in
theorem dX9_stores_219 : decode cX9_stores 219 = .ok (.getfield 35, 3) := by decide +kernel
set_option maxRecDepth 100000 in
theorem dX9_stores_222 : decode cX9_stores 222 = .ok (.aload_n 0, 1) := by decide +kernel
set_option maxRecDepth 100000 in
theorem dX9_stores_223 : decode cX9_stores 223 = .ok (.getfield 86, 3) := by decide +kernel
set_option maxRecDepth 100000 in
theorem dX9_stores_226 : decode cX9_stores 226 = .ok (.iconst 1, 1) := by decide +kernel
set_option maxRecDepth 100000 in
theorem dX9_stores_227 : decode cX9_stores 227 = .ok (.iadd, 1) := by decide +kernel
set_option maxRecDepth 100000 in
theorem dX9_stores_228 : decode cX9_stores 228 = .ok (.daload, 1) := by decide +kernel
set_option maxRecDepth 100000 in
theorem dX9_stores_229 : decode cX9_stores 229 = .ok (.dastore, 1) := by decide +kernel
set_option maxRecDepth 100000 in
theorem dX9_stores_230 : decode cX9_stores 230 = .ok (.aload_n 0, 1) := by decide +kernel
set_option maxRecDepth 100000 in
theorem dX9_stores_231 : decode cX9_stores 231 = .ok (.getfield 12, 3) := by decide +kernel
set_option maxRecDepth 100000 in
theorem dX9_stores_234 : decode cX9_stores 234 = .ok (.getfield 247, 3) := by decide +kernel
set_option maxRecDepth 100000 in
theorem dX9_stores_237 : decode cX9_stores 237 = .ok (.iload 4, 2) := by decide +kernel
set_option maxRecDepth 100000 in
theorem dX9_stores_239 : decode cX9_stores 239 = .ok (.iconst 1, 1) := by decide +kernel
set_option maxRecDepth 100000 in
theorem dX9_stores_240 : decode cX9_stores 240 = .ok (.bastore, 1) := by decide +kernel
set_option maxRecDepth 100000 in
theorem dX9_stores_241 : decode cX9_stores 241 = .ok (.return_, 1) := by decide +kernel
set_option maxRecDepth 100000 in
def bX9_stores_167 (G : xG) (fr lo : Nat) (x0 : Nat) (x4 : Int32) (h : xH) (Q : Outcome → xH → Prop) : Prop := tg h x0 = 10 ∧ tg h (fR h x0 2305) = 11 ∧ tg h (fR h x0 2307) = 101 ∧ vp_in ((fI h x0 2310) + 1) (ln h (fR h x0 2307)) ∧ tg h (fR h (fR h x0 2305) 2560) = 101 ∧ vp_in x4 (ln h (fR h (fR h x0 2305) 2560)) ∧ (∀ h7 : xH, h7 = tJ h (fR h (fR h x0 2305) 2560) (Int32.toNatClampNeg x4) (aJ h (fR h x0 2307) (Int32.toNatClampNeg ((fI h x0 2310) + 1))) → tg h7 (fR h7 x0 2305) = 11 ∧ tg h7 (fR h7 x0 2308) = 101 ∧ vp_in ((fI h7 x0 2310) + 1) (ln h7 (fR h7 x0 2308)) ∧ tg h7 (fR h7 (fR h7 x0 2305) 2561) = 101 ∧ vp_in x4 (ln h7 (fR h7 (fR h7 x0 2305) 2561)) ∧ (∀ h15 : xH, h15 = tJ h7 (fR h7 (fR h7 x0 2305) 2561) (Int32.toNatClampNeg x4) (aJ h7 (fR h7 x0 2308) (Int32.toNatClampNeg ((fI h7 x0 2310) + 1))) → tg h15 (fR h15 x0 2305) = 11 ∧ tg h15 (fR h15 x0 2309) = 102 ∧ vp_in ((fI h15 x0 2310) + 1) (ln h15 (fR h15 x0 2309)) ∧ tg h15 (fR h15 (fR h15 x0 2305) 2562) = 102 ∧ vp_in x4 (ln h15 (fR h15 (fR h15 x0 2305) 2562)) ∧ (∀ h23 : xH, h23 = tD h15 (fR h15 (fR h15 x0 2305) 2562) (Int32.toNatClampNeg x4) (aD h15 (fR h15 x0 2309) (Int32.toNatClampNeg ((fI h15 x0 2310) + 1))) → tg h23 (fR h23 x0 2305) = 11 ∧ tg h23 (fR h23 (fR h23 x0 2305) 2563) = 104 ∧ vp_in x4 (ln h23 (fR h23 (fR h23 x0 2305) 2563)) ∧ (∀ h29 : xH, h29 = tI h23 (fR h23 (fR h23 x0 2305) 2563) (Int32.toNatClampNeg x4) (vp_nar .boolean 1) → Q (.returned none) h29))))
set_option maxRecDepth 100000 in
theorem uX9_stores_167 {G : xG} {fr lo : Nat} {x0 : Nat} {x4 : Int32} {h : xH} {Q : Outcome → xH → Prop} (hq : bX9_stores_167 G fr lo x0 x4 h Q) : xP G YX9_stores fr lo 167 [(0, rv x0), (4, .int x4)] [] h Q := by
  unfold bX9_stores_167 at hq
  refine x_aload_n 0 dX9_stores_167 rfl ?_
  obtain ⟨g1, hq⟩ := hq
  refine x_get (v := rv (fR h x0 2305)) fdX9_12 dX9_stores_168 g1 rfl ?_
  obtain ⟨g2, hq⟩ := hq
  refine x_getN (v := rv (fR h (fR h x0 2305) 2560)) gfX9_218 dX9_stores_171 g2 rfl ?_
  refine x_iload 1 dX9_stores_174 rfl ?_
  refine x_aload_n 0 dX9_stores_176 rfl ?_
  refine x_get (v := rv (fR h x0 2307)) fdX9_28 dX9_stores_177 g1 rfl ?_
  refine x_aload_n 0 dX9_stores_180 rfl ?_
  refine x_get (v := .int (fI h x0 2310)) fdX9_86 dX9_stores_181 g1 rfl ?_
  refine x_iconst (v := 1) dX9_stores_184 (by decide) ?_
  refine x_iadd dX9_stores_185 ?_
  obtain ⟨g3, hq⟩ := hq
  obtain ⟨i4, hq⟩ := hq
  refine x_lald g3 i4 dX9_stores_186 ?_
  obtain ⟨g5, hq⟩ := hq
  obtain ⟨i6, hq⟩ := hq
  obtain ⟨h7, e8⟩ : ∃ y, y = tJ h (fR h (fR h x0 2305) 2560) (Int32.toNatClampNeg x4) (aJ h (fR h x0 2307) (Int32.toNatClampNeg ((fI h x0 2310) + 1))) := ⟨_, rfl⟩
  replace hq := hq h7 e8
  refine x_last' g5 i6 dX9_stores_187 e8 ?_
  refine x_aload_n 0 dX9_stores_188 rfl ?_
  have t9 : tg h7 x0 = 10 := by rw [e8]; exact g1
  refine x_get (v := rv (fR h7 x0 2305)) fdX9_12 dX9_stores_189 t9 rfl ?_
  obtain ⟨g10, hq⟩ := hq
  refine x_getN (v := rv (fR h7 (fR h7 x0 2305) 2561)) gfX9_277 dX9_stores_192 g10 rfl ?_
  refine x_iload 1 dX9_stores_195 rfl ?_
  refine x_aload_n 0 dX9_stores_197 rfl ?_
  refine x_get (v := rv (fR h7 x0 2308)) fdX9_32 dX9_stores_198 t9 rfl ?_
  refine x_aload_n 0 dX9_stores_201 rfl ?_
  refine x_get (v := .int (fI h7 x0 2310)) fdX9_86 dX9_stores_202 t9 rfl ?_
  refine x_iconst (v := 1) dX9_stores_205 (by decide) ?_
  refine x_iadd dX9_stores_206 ?_
  obtain ⟨g11, hq⟩ := hq
  obtain ⟨i12, hq⟩ := hq
  refine x_lald g11 i12 dX9_stores_207 ?_
  obtain ⟨g13, hq⟩ := hq
  obtain ⟨i14, hq⟩ := hq
  obtain ⟨h15, e16⟩ : ∃ y, y = tJ h7 (fR h7 (fR h7 x0 2305) 2561) (Int32.toNatClampNeg x4) (aJ h7 (fR h7 x0 2308) (Int32.toNatClampNeg ((fI h7 x0 2310) + 1))) := ⟨_, rfl⟩
  replace hq := hq h15 e16
  refine x_last' g13 i14 dX9_stores_208 e16 ?_
  refine x_aload_n 0 dX9_stores_209 rfl ?_
  have t17 : tg h15 x0 = 10 := by rw [e16]; exact t9
  refine x_get (v := rv (fR h15 x0 2305)) fdX9_12 dX9_stores_210 t17 rfl ?_
  obtain ⟨g18, hq⟩ := hq
  refine x_getN (v := rv (fR h15 (fR h15 x0 2305) 2562)) gfX9_278 dX9_stores_213 g18 rfl ?_
  refine x_iload 1 dX9_stores_216 rfl ?_
  refine x_aload_n 0 dX9_stores_218 rfl ?_
  refine x_get (v := rv (fR h15 x0 2309)) fdX9_35 dX9_stores_219 t17 rfl ?_
  refine x_aload_n 0 dX9_stores_222 rfl ?_
  refine x_get (v := .int (fI h15 x0 2310)) fdX9_86 dX9_stores_223 t17 rfl ?_
  refine x_iconst (v := 1) dX9_stores_226 (by decide) ?_
  refine x_iadd dX9_stores_227 ?_
  obtain ⟨g19, hq⟩ := hq
  obtain ⟨i20, hq⟩ := hq
  refine x_dald g19 i20 dX9_stores_228 ?_
  obtain ⟨g21, hq⟩ := hq
  obtain ⟨i22, hq⟩ := hq
  obtain ⟨h23, e24⟩ : ∃ y, y = tD h15 (fR h15 (fR h15 x0 2305) 2562) (Int32.toNatClampNeg x4) (aD h15 (fR h15 x0 2309) (Int32.toNatClampNeg ((fI h15 x0 2310) + 1))) := ⟨_, rfl⟩
  replace hq := hq h23 e24
  refine x_dast' g21 i22 dX9_stores_229 e24 ?_
  refine x_aload_n 0 dX9_stores_230 rfl ?_
  have t25 : tg h23 x0 = 10 := by rw [e24]; exact t17
  refine x_get (v := rv (fR h23 x0 2305)) fdX9_12 dX9_stores_231 t25 rfl ?_
  obtain ⟨g26, hq⟩ := hq
  refine x_getN (v := rv (fR h23 (fR h23 x0 2305) 2563)) gfX9_247 dX9_stores_234 g26 rfl ?_
  refine x_iload 1 dX9_stores_237 rfl ?_
  refine x_iconst (v := 1) dX9_stores_239 (by decide) ?_
  obtain ⟨g27, hq⟩ := hq
  obtain ⟨i28, hq⟩ := hq
  obtain ⟨h29, e30⟩ : ∃ y, y = tI h23 (fR h23 (fR h23 x0 2305) 2563) (Int32.toNatClampNeg x4) (vp_nar .boolean 1) := ⟨_, rfl⟩
  replace hq := hq h29 e30
  refine x_zast' g27 i28 dX9_stores_240 e30 ?_
  exact x_vret rfl dX9_stores_241 hq
set_option maxRecDepth 100000 in
def bX9_stores_144 (G : xG) (fr lo : Nat) (x0 : Nat) (x4 : Int32) (x5 : Nat) (x6 : Int32) (h : xH) (Q : Outcome → xH → Prop) : Prop := tg h x0 = 10 ∧ tg h x5 = 20 ∧ tg h (fR h x0 2305) = 11 ∧ 1 ≤ fr ∧ 15 ≤ lo ∧ xRv G YX10_forget (fr - 1) (lo - 15) [rv (fR h x0 2305), .int (x6 + (fI h x5 4867)), .int (x6 + (fI h x5 4868))] h (fun h6 => xext h h6 → bX9_stores_167 G fr lo x0 x4 h6 Q) (fun r h2 => Q (.threw r) h2)
set_option maxRecDepth 100000 in
theorem uX9_stores_144 {G : xG} {fr lo : Nat} {x0 : Nat} {x4 : Int32} {x5 : Nat} {x6 : Int32} {h : xH} {Q : Outcome → xH → Prop} (hq : bX9_stores_144 G fr lo x0 x4 x5 x6 h Q) : xP G YX9_stores fr lo 144 [(0, rv x0), (4, .int x4), (5, rv x5), (6, .int x6)] [] h Q := by
  unfold bX9_stores_144 at hq
  refine x_aload_n 0 dX9_stores_144 rfl ?_
  obtain ⟨g1, hq⟩ := hq
  refine x_get (v := rv (fR h x0 2305)) fdX9_12 dX9_stores_145 g1 rfl ?_
  refine x_iload 3 dX9_stores_148 rfl ?_
  refine x_aload 2 dX9_stores_150 rfl ?_
  obtain ⟨g2, hq⟩ := hq
  refine x_getN (v := .int (fI h x5 4867)) gfX9_270 dX9_stores_152 g2 rfl ?_
  refine x_iadd dX9_stores_155 ?_
  refine x_iload 3 dX9_stores_156 rfl ?_
  refine x_aload 2 dX9_stores_158 rfl ?_
  refine x_getN (v := .int (fI h x5 4868)) gfX9_267 dX9_stores_160 g2 rfl ?_
  refine x_iadd dX9_stores_163 ?_
  obtain ⟨g3, hq⟩ := hq
  obtain ⟨g4, g5, hq⟩ := hq
  refine x_callV (Yc := YX10_forget) (as := [.int (x6 + (fI h x5 4867)), .int (x6 + (fI h x5 4868))]) (st := []) q2843 mvX10_forget g3 rfl dX9_stores_164 (xle (xal1 (rv_cat _) (xal1 rfl (xal1 rfl xal0))) (by decide)) (xfr g4) (xlo xsw0 (by decide) g5) (xKv hq (fun h6 hq e8 => ?_) (fun _ _ q _ => q))
  replace hq := hq e8
  refine xP.pick (lv' := [(0, rv x0), (4, .int x4)]) [0, 1] rfl ?_
  exact uX9_stores_167 hq
set_option maxRecDepth 100000 in
def bX9_stores_115 (G : xG) (fr lo : Nat) (x0 : Nat) (x4 : Int32) (x5 : Nat) (x6 : Int32) (s0 : Int32) (h : xH) (Q : Outcome → xH → Prop) : Prop := ((s0 = (-1) → bX9_stores_144 G fr lo x0 x4 x5 x6 h Q) ∧ (¬ s0 = (-1) → tg h x0 = 10 ∧ tg h (fR h x0 2307) = 101 ∧ vp_in ((fI h x0 2310) + 1) (ln h (fR h x0 2307)) ∧ tg h x5 = 20 ∧ 1 ≤ fr ∧ 16 ≤ lo ∧ xRi G YX19_choiceOf (fr - 1) (lo - 16) [rv x5, .long (aJ h (fR h x0 2307) (Int32.toNatClampNeg ((fI h x0 2310) + 1)))] h (fun x9 h8 => xext h h8 → ((s0 = x9 → bX9_stores_167 G fr lo x0 x4 h8 Q) ∧ (¬ s0 = x9 → bX9_stores_144 G fr lo x0 x4 x5 x6 h8 Q))) (fun r h2 => Q (.threw r) h2)))
set_option maxRecDepth 100000 in
theorem uX9_stores_115 {G : xG} {fr lo : Nat} {x0 : Nat} {x4 : Int32} {x5 : Nat} {x6 : Int32} {s0 : Int32} {h : xH} {Q : Outcome → xH → Prop} (hq : bX9_stores_115 G fr lo x0 x4 x5 x6 s0 h Q) : xP G YX9_stores fr lo 115 [(0, rv x0), (4, .int x4), (5, rv x5), (6, .int x6)] [.int s0] h Q := by
  unfold bX9_stores_115 at hq
  refine x_istore (lv' := [(7, .int s0), (0, rv x0), (4, .int x4), (5, rv x5), (6, .int x6)]) dX9_stores_115 (by decide) rfl ?_
  refine x_iload 0 dX9_stores_117 rfl ?_
  refine x_iconst (v := (-1)) dX9_stores_119 (by decide) ?_
  refine x_icmp_eq (tgt := 144) dX9_stores_120 (by decide) (fun c1 => ?_) (fun c1 => ?_)
  · replace hq := hq.1 c1
    refine xP.pick (lv' := [(0, rv x0), (4, .int x4), (5, rv x5), (6, .int x6)]) [1, 2, 3, 4] rfl ?_
    exact uX9_stores_144 hq
  · replace hq := hq.2 c1
    refine x_iload 0 dX9_stores_123 rfl ?_
    refine x_aload 3 dX9_stores_125 rfl ?_
    refine x_aload_n 1 dX9_stores_127 rfl ?_
    obtain ⟨g2, hq⟩ := hq
    refine x_get (v := rv (fR h x0 2307)) fdX9_28 dX9_stores_128 g2 rfl ?_
    refine x_aload_n 1 dX9_stores_131 rfl ?_
    refine x_get (v := .int (fI h x0 2310)) fdX9_86 dX9_stores_132 g2 rfl ?_
    refine x_iconst (v := 1) dX9_stores_135 (by decide) ?_
    refine x_iadd dX9_stores_136 ?_
    obtain ⟨g3, hq⟩ := hq
    obtain ⟨i4, hq⟩ := hq
    refine x_lald g3 i4 dX9_stores_137 ?_
    obtain ⟨g5, hq⟩ := hq
    obtain ⟨g6, g7, hq⟩ := hq
    refine x_callV (Yc := YX19_choiceOf) (as := [.long (aJ h (fR h x0 2307) (Int32.toNatClampNeg ((fI h x0 2310) + 1)))]) (st := [.int s0]) q2912 mvX19_choiceOf g5 rfl dX9_stores_138 (xle (xal1 (rv_cat _) (xal2 rfl xal0)) (by decide)) (xfr g6) (xlo (xsw1 rfl xsw0) (by decide) g7) (xKi hq (fun x9 h8 hq e10 => ?_) (fun _ _ q _ => q))
    replace hq := hq e10
    refine x_icmp_eq (tgt := 167) dX9_stores_141 (by decide) (fun c11 => ?_) (fun c11 => ?_)
    · replace hq := hq.1 c11
      refine xP.pick (lv' := [(0, rv x0), (4, .int x4)]) [1, 2] rfl ?_
      exact uX9_stores_167 hq
    · replace hq := hq.2 c11
      refine xP.pick (lv' := [(0, rv x0), (4, .int x4), (5, rv x5), (6, .int x6)]) [1, 2, 3, 4] rfl ?_
      exact uX9_stores_144 hq
set_option maxRecDepth 100000 in
def bX9_stores (G : xG) (fr lo : Nat) (x0 : Nat) (x1 : Int32) (x2 : Int32) (x3 : Int32) (h : xH) (Q : Outcome → xH → Prop) : Prop := tg h x0 = 10 ∧ (∀ h2 : xH, h2 = sI h x0 2310 ((fI h x0 2310) - 2) → tg h2 (fR h2 x0 2307) = 101 ∧ vp_in (fI h2 x0 2310) (ln h2 (fR h2 x0 2307)) ∧ ((¬ x1 = 15 → ((¬ x1 = 16 → bX9_stores_167 G fr lo x0 (Int64.toInt32 (aJ h2 (fR h2 x0 2307) (Int32.toNatClampNeg (fI h2 x0 2310)))) h2 Q) ∧ (x1 = 16 → tg h2 (fR h2 x0 2304) = 3 ∧ tg h2 (fR h2 (fR h2 x0 2304) 523) = 29 ∧ 1 ≤ fr ∧ 13 ≤ lo ∧ xRr G YJ2_get (fr - 1) (lo - 13) [rv (fR h2 (fR h2 x0 2304) 523), .int x2] h2 (fun x14 h13 => xext h2 h13 → tg h13 x14 = 20 ∧ tg h13 (fR h13 x0 2305) = 11 ∧ tg h13 (fR h13 (fR h13 x0 2305) 2563) = 104 ∧ vp_in (Int64.toInt32 (aJ h2 (fR h2 x0 2307) (Int32.toNatClampNeg (fI h2 x0 2310)))) (ln h13 (fR h13 (fR h13 x0 2305) 2563)) ∧ (((aI h13 (fR h13 (fR h13 x0 2305) 2563) (Int32.toNatClampNeg (Int64.toInt32 (aJ h2 (fR h2 x0 2307) (Int32.toNatClampNeg (fI h2 x0 2310)))))) = 0 → bX9_stores_115 G fr lo x0 (Int64.toInt32 (aJ h2 (fR h2 x0 2307) (Int32.toNatClampNeg (fI h2 x0 2310)))) x14 ((Int64.toInt32 (aJ h2 (fR h2 x0 2307) (Int32.toNatClampNeg (fI h2 x0 2310)))) - (fI h13 x14 4866)) (-1) h13 Q) ∧ (¬ (aI h13 (fR h13 (fR h13 x0 2305) 2563) (Int32.toNatClampNeg (Int64.toInt32 (aJ h2 (fR h2 x0 2307) (Int32.toNatClampNeg (fI h2 x0 2310)))))) = 0 → tg h13 (fR h13 (fR h13 x0 2305) 2560) = 101 ∧ vp_in (Int64.toInt32 (aJ h2 (fR h2 x0 2307) (Int32.toNatClampNeg (fI h2 x0 2310)))) (ln h13 (fR h13 (fR h13 x0 2305) 2560)) ∧ 1 ≤ fr ∧ 15 ≤ lo ∧ xRi G YX19_choiceOf (fr - 1) (lo - 15) [rv x14, .long (aJ h13 (fR h13 (fR h13 x0 2305) 2560) (Int32.toNatClampNeg (Int64.toInt32 (aJ h2 (fR h2 x0 2307) (Int32.toNatClampNeg (fI h2 x0 2310))))))] h13 (fun x27 h26 => xext h13 h26 → bX9_stores_115 G fr lo x0 (Int64.toInt32 (aJ h2 (fR h2 x0 2307) (Int32.toNatClampNeg (fI h2 x0 2310)))) x14 ((Int64.toInt32 (aJ h2 (fR h2 x0 2307) (Int32.toNatClampNeg (fI h2 x0 2310)))) - (fI h13 x14 4866)) x27 h26 Q) (fun r h2 => Q (.threw r) h2)))) (fun r h2 => Q (.threw r) h2)))) ∧ (x1 = 15 → vp_in ((fI h2 x0 2310) + 1) (ln h2 (fR h2 x0 2307)) ∧ tg h2 (fR h2 x0 2305) = 11 ∧ 1 ≤ fr ∧ 16 ≤ lo ∧ xRv G YX10_copy (fr - 1) (lo - 16) [rv (fR h2 x0 2305), .int (Int64.toInt32 (aJ h2 (fR h2 x0 2307) (Int32.toNatClampNeg ((fI h2 x0 2310) + 1)))), .int (Int64.toInt32 (aJ h2 (fR h2 x0 2307) (Int32.toNatClampNeg (fI h2 x0 2310)))), .int x2] h2 (fun h33 => xext h2 h33 → Q (.returned none) h33) (fun r h2 => Q (.threw r) h2))))
set_option maxRecDepth 100000 in
theorem uX9_stores {G : xG} {fr lo : Nat} {x0 : Nat} {x1 : Int32} {x2 : Int32} {x3 : Int32} {h : xH} {Q : Outcome → xH → Prop} (hq : bX9_stores G fr lo x0 x1 x2 x3 h Q) : xP G YX9_stores fr lo 0 [(0, rv x0), (1, .int x1), (2, .int x2), (3, .int x3)] [] h Q := by
  unfold bX9_stores at hq
  refine x_aload_n 0 dX9_stores_0 rfl ?_
  refine x_dup dX9_stores_1 (rv_cat _) ?_
  obtain ⟨g1, hq⟩ := hq
  refine x_get (v := .int (fI h x0 2310)) fdX9_86 dX9_stores_2 g1 rfl ?_
  refine x_iconst (v := 2) dX9_stores_5 (by decide) ?_
  refine x_isub dX9_stores_6 ?_
  obtain ⟨h2, e3⟩ : ∃ y, y = sI h x0 2310 ((fI h x0 2310) - 2) := ⟨_, rfl⟩
  replace hq := hq h2 e3
  refine x_putI fdX9_86 xty_I1 dX9_stores_7 g1 (Or.inl (by rw [g1]; rfl)) xnI rfl e3 ?_
  refine x_aload_n 0 dX9_stores_10 rfl ?_
  have t4 : tg h2 x0 = 10 := by rw [e3]; exact g1
  refine x_get (v := rv (fR h2 x0 2307)) fdX9_28 dX9_stores_11 t4 rfl ?_
  refine x_aload_n 0 dX9_stores_14 rfl ?_
  refine x_get (v := .int (fI h2 x0 2310)) fdX9_86 dX9_stores_15 t4 rfl ?_
  obtain ⟨g5, hq⟩ := hq
  obtain ⟨i6, hq⟩ := hq
  refine x_lald g5 i6 dX9_stores_18 ?_
  refine x_l2i dX9_stores_19 ?_
  refine x_istore (lv' := [(4, .int (Int64.toInt32 (aJ h2 (fR h2 x0 2307) (Int32.toNatClampNeg (fI h2 x0 2310))))), (0, rv x0), (1, .int x1), (2, .int x2), (3, .int x3)]) dX9_stores_20 (by decide) rfl ?_
  refine x_iload_n 2 dX9_stores_22 rfl ?_
  refine x_bipush (v := 15) dX9_stores_23 (by decide) ?_
  refine x_icmp_ne (tgt := 51) dX9_stores_25 (by decide) (fun c7 => ?_) (fun c7 => ?_)
  · replace hq := hq.1 c7
    refine x_iload_n 2 dX9_stores_51 rfl ?_
    refine x_bipush (v := 16) dX9_stores_52 (by decide) ?_
    refine x_icmp_ne (tgt := 167) dX9_stores_54 (by decide) (fun c8 => ?_) (fun c8 => ?_)
    · replace hq := hq.1 c8
      refine xP.pick (lv' := [(0, rv x0), (4, .int (Int64.toInt32 (aJ h2 (fR h2 x0 2307) (Int32.toNatClampNeg (fI h2 x0 2310)))))]) [1, 0] rfl ?_
      exact uX9_stores_167 hq
    · replace hq := hq.2 c8
      refine x_aload_n 1 dX9_stores_57 rfl ?_
      refine x_get (v := rv (fR h2 x0 2304)) fdX9_75 dX9_stores_58 t4 rfl ?_
      obtain ⟨g9, hq⟩ := hq
      refine x_getN (v := rv (fR h2 (fR h2 x0 2304) 523)) gfX9_231 dX9_stores_61 g9 rfl ?_
      refine x_iload_n 3 dX9_stores_64 rfl ?_
      obtain ⟨g10, hq⟩ := hq
      obtain ⟨g11, g12, hq⟩ := hq
      refine x_callV (Yc := YJ2_get) (as := [.int x2]) (st := []) q2848 mvJ2_get g10 rfl dX9_stores_65 (xle (xal1 (rv_cat _) (xal1 rfl xal0)) (by decide)) (xfr g11) (xlo xsw0 (by decide) g12) (xKr hq (fun x14 h13 hq e15 => ?_) (fun _ _ q _ => q))
      replace hq := hq e15
      obtain ⟨g16, hq⟩ := hq
      refine x_cast (ci := 19) (by decide) rfl q2907 g16 dX9_stores_68 ?_
      refine x_astore (lv' := [(5, rv x14), (4, .int (Int64.toInt32 (aJ h2 (fR h2 x0 2307) (Int32.toNatClampNeg (fI h2 x0 2310))))), (0, rv x0), (1, .int x1), (2, .int x2), (3, .int x3)]) dX9_stores_71 (by decide) rfl ?_
      refine x_iload 1 dX9_stores_73 rfl ?_
      refine x_aload 0 dX9_stores_75 rfl ?_
      refine x_getN (v := .int (fI h13 x14 4866)) gfX9_257 dX9_stores_77 g16 rfl ?_
      refine x_isub dX9_stores_80 ?_
      refine x_istore (lv' := [(6, .int ((Int64.toInt32 (aJ h2 (fR h2 x0 2307) (Int32.toNatClampNeg (fI h2 x0 2310)))) - (fI h13 x14 4866))), (5, rv x14), (4, .int (Int64.toInt32 (aJ h2 (fR h2 x0 2307) (Int32.toNatClampNeg (fI h2 x0 2310))))), (0, rv x0), (1, .int x1), (2, .int x2), (3, .int x3)]) dX9_stores_81 (by decide) (by first | rfl | (simp [rv_cat, Value.category]; done) | (simp [rv_cat, Value.category]; decide)) ?_
      refine x_aload_n 3 dX9_stores_83 rfl ?_
      have t17 : tg h13 x0 = 10 := e15.tg t4 (by decide)
      refine x_get (v := rv (fR h13 x0 2305)) fdX9_12 dX9_stores_84 t17 rfl ?_
      obtain ⟨g18, hq⟩ := hq
      refine x_getN (v := rv (fR h13 (fR h13 x0 2305) 2563)) gfX9_247 dX9_stores_87 g18 rfl ?_
      refine x_iload 2 dX9_stores_90 rfl ?_
      obtain ⟨g19, hq⟩ := hq
      obtain ⟨i20, hq⟩ := hq
      refine x_zald g19 i20 dX9_stores_92 ?_
      refine x_if_eq (tgt := 114) dX9_stores_93 (by decide) (fun c21 => ?_) (fun c21 => ?_)
      · replace hq := hq.1 c21
        refine x_iconst (v := (-1)) dX9_stores_114 (by decide) ?_
        refine xP.pick (lv' := [(0, rv x0), (4, .int (Int64.toInt32 (aJ h2 (fR h2 x0 2307) (Int32.toNatClampNeg (fI h2 x0 2310))))), (5, rv x14), (6, .int ((Int64.toInt32 (aJ h2 (fR h2 x0 2307) (Int32.toNatClampNeg (fI h2 x0 2310)))) - (fI h13 x14 4866)))]) [3, 2, 1, 0] rfl ?_
        exact uX9_stores_115 hq
      · replace hq := hq.2 c21
        refine x_aload 1 dX9_stores_96 rfl ?_
        refine x_aload_n 3 dX9_stores_98 rfl ?_
        refine x_get (v := rv (fR h13 x0 2305)) fdX9_12 dX9_stores_99 t17 rfl ?_
        refine x_getN (v := rv (fR h13 (fR h13 x0 2305) 2560)) gfX9_218 dX9_stores_102 g18 rfl ?_
        refine x_iload 2 dX9_stores_105 rfl ?_
        obtain ⟨g22, hq⟩ := hq
        obtain ⟨i23, hq⟩ := hq
        refine x_lald g22 i23 dX9_stores_107 ?_
        obtain ⟨g24, g25, hq⟩ := hq
        refine x_callV (Yc := YX19_choiceOf) (as := [.long (aJ h13 (fR h13 (fR h13 x0 2305) 2560) (Int32.toNatClampNeg (Int64.toInt32 (aJ h2 (fR h2 x0 2307) (Int32.toNatClampNeg (fI h2 x0 2310))))))]) (st := []) q2912 mvX19_choiceOf g16 rfl dX9_stores_108 (xle (xal1 (rv_cat _) (xal2 rfl xal0)) (by decide)) (xfr g24) (xlo xsw0 (by decide) g25) (xKi hq (fun x27 h26 hq e28 => ?_) (fun _ _ q _ => q))
        replace hq := hq e28
        refine x_goto (tgt := 115) dX9_stores_111 (by decide) ?_
        refine xP.pick (lv' := [(0, rv x0), (4, .int (Int64.toInt32 (aJ h2 (fR h2 x0 2307) (Int32.toNatClampNeg (fI h2 x0 2310))))), (5, rv x14), (6, .int ((Int64.toInt32 (aJ h2 (fR h2 x0 2307) (Int32.toNatClampNeg (fI h2 x0 2310)))) - (fI h13 x14 4866)))]) [3, 2, 1, 0] rfl ?_
        exact uX9_stores_115 hq
  · replace hq := hq.2 c7
    refine x_aload_n 1 dX9_stores_28 rfl ?_
    refine x_get (v := rv (fR h2 x0 2305)) fdX9_12 dX9_stores_29 t4 rfl ?_
    refine x_aload_n 1 dX9_stores_32 rfl ?_
    refine x_get (v := rv (fR h2 x0 2307)) fdX9_28 dX9_stores_33 t4 rfl ?_
    refine x_aload_n 1 dX9_stores_36 rfl ?_
    refine x_get (v := .int (fI h2 x0 2310)) fdX9_86 dX9_stores_37 t4 rfl ?_
    refine x_iconst (v := 1) dX9_stores_40 (by decide) ?_
    refine x_iadd dX9_stores_41 ?_
    obtain ⟨i29, hq⟩ := hq
    refine x_lald g5 i29 dX9_stores_42 ?_
    refine x_l2i dX9_stores_43 ?_
    refine x_iload 0 dX9_stores_44 rfl ?_
    refine x_iload_n 3 dX9_stores_46 rfl ?_
    obtain ⟨g30, hq⟩ := hq
    obtain ⟨g31, g32, hq⟩ := hq
    refine x_callV (Yc := YX10_copy) (as := [.int (Int64.toInt32 (aJ h2 (fR h2 x0 2307) (Int32.toNatClampNeg ((fI h2 x0 2310) + 1)))), .int (Int64.toInt32 (aJ h2 (fR h2 x0 2307) (Int32.toNatClampNeg (fI h2 x0 2310)))), .int x2]) (st := []) q2925 mvX10_copy g30 rfl dX9_stores_47 (xle (xal1 (rv_cat _) (xal1 rfl (xal1 rfl (xal1 rfl xal0)))) (by decide)) (xfr g31) (xlo xsw0 (by decide) g32) (xKv hq (fun h33 hq e35 => ?_) (fun _ _ q _ => q))
    replace hq := hq e35
    exact x_vret rfl dX9_stores_50 hq
theorem rX9_stores {G : xG} {fr lo : Nat} {x0 : Nat} {x1 : Int32} {x2 : Int32} {x3 : Int32} {h : xH} {Q : Outcome → xH → Prop} (hq : bX9_stores G fr lo x0 x1 x2 x3 h Q) : xR G YX9_stores fr lo [rv x0, .int x1, .int x2, .int x3] h Q := by
  show xP _ _ _ _ _ (lv_args 0 _) _ _ _
  rw [show lv_args 0 [rv x0, .int x1, .int x2, .int x3] = [(0, rv x0), (1, .int x1), (2, .int x2), (3, .int x3)] from (xla1 (rv_cat _) (xla1 rfl (xla1 rfl (xla1 rfl xla0))))]
  exact uX9_stores hq
set_option maxRecDepth 100000 in
theorem dX9_works_0 : decode cX9_works 0 = .ok (.aload_n 0, 1) := by decide +kernel
set_option maxRecDepth 100000 in
theorem dX9_works_1 : decode cX9_works 1 = .ok (.getfield 75, 3) := by decide +kernel
set_option maxRecDepth 100000 in
theorem dX9_works_4 : decode cX9_works 4 = .ok (.getfield 222, 3) := by decide +kernel
set_option maxRecDepth 100000 in
theorem dX9_works_7 : decode cX9_works 7 = .ok (.iload_n 2, 1) := by decide +kernel
set_option maxRecDepth 100000 in
theorem dX9_works_8 : decode cX9_works 8 = .ok (.iaload, 1) := by decide +kernel
set_option maxRecDepth 100000 in
theorem dX9_works_9 : decode cX9_works 9 = .ok (.istore_n 3, 1) := by decide +kernel
set_option maxRecDepth 100000 in
theorem dX9_works_10 : decode cX9_works 10 = .ok (.iload_n 1, 1) := by decide +kernel
set_option maxRecDepth 100000 in
theorem dX9_works_11 : decode cX9_works 11 = .ok (.tableswitch 318 25 44 #[93, 318, 318, 318, 318, 119, 145, 171, 318, 318, 197, 318, 318, 318, 318, 318, 318, 224, 252, 244], 93) := by decide +kernel
set_option maxRecDepth 100000 in
theorem dX9_works_104 : decode cX9_works 104 = .ok (.aload_n 0, 1) := by decide +kernel
set_option maxRecDepth 100000 in
theorem dX9_works_105 : decode cX9_works 105 = .ok (.getfield 28, 3) := by decide +kernel
set_option maxRecDepth 100000 in
theorem dX9_works_108 : decode cX9_works 108 = .ok (.aload_n 0, 1) := by decide +kernel
set_option maxRecDepth 100000 in
theorem dX9_works_109 : decode cX9_works 109 = .ok (.getfield 86, 3) := by decide +kernel
set_option maxRecDepth 100000 in
theorem dX9_works_112 : decode cX9_works 112 = .ok (.iconst 1, 1) := by decide +kernel
set_option maxRecDepth 100000 in
theorem dX9_works_113 : decode cX9_works 113 = .ok (.isub, 1) := by decide +kernel
set_option maxRecDepth 100000 in
theorem dX9_works_114 : decode cX9_works 114 = .ok (.aload_n 0, 1) := by decide +kernel
set_option maxRecDepth 100000 in
theorem dX9_works_115 : decode cX9_works 115 = .ok (.getfield 28, 3) := by decide +kernel
set_option maxRecDepth 100000 in
theorem dX9_works_118 : decode cX9_works 118 = .ok (.aload_n 0, 1) := by decide +kernel
set_option maxRecDepth 100000 in
theorem dX9_works_119 : decode cX9_works 119 = .ok (.getfield 86, 3) := by decide +kernel
set_option maxRecDepth 100000 in
theorem dX9_works_122 : decode cX9_works 122 = .ok (.iconst 1, 1) := by decide +kernel
set_option maxRecDepth 100000 in
theorem dX9_works_123 : decode cX9_works 123 = .ok (.isub, 1) := by decide +kernel
set_option maxRecDepth 100000 in
theorem dX9_works_124 : decode cX9_works 124 = .ok (.laload, 1) := by decide +kernel
set_option maxRecDepth 100000 in
theorem dX9_works_125 : decode cX9_works 125 = .ok (.lneg, 1) := by decide +kernel
set_option maxRecDepth 100000 in
theorem dX9_works_126 : decode cX9_works 126 = .ok (.lastore, 1) := by decide +kernel
set_option maxRecDepth 100000 in
theorem dX9_works_127 : decode cX9_works 127 = .ok (.goto 302, 3) := by decide +kernel
set_option maxRecDepth 100000 in
theorem dX9_works_130 : decode cX9_works 130 = .ok (.aload_n 0, 1) := by decide +kernel
set_option maxRecDepth 100000 in
theorem dX9_works_131 : decode cX9_works 131 = .ok (.getfield 35, 3) := by decide +kernel
set_option maxRecDepth 100000 in
theorem dX9_works_134 : decode cX9_works 134 = .ok (.aload_n 0, 1) := by decide +kernel
set_option maxRecDepth 100000 in
theorem dX9_works_135 : decode cX9_works 135 = .ok (.getfield 86, 3) := by decide +kernel
set_option maxRecDepth 100000 in
theorem dX9_works_138 : decode cX9_works 138 = .ok (.iconst 1, 1) := by decide +kernel
set_option maxRecDepth 100000 in
theorem dX9_works_139 : decode cX9_works 139 = .ok (.isub, 1) := by decide +kernel
set_option maxRecDepth 100000 in
theorem dX9_works_140 : decode cX9_works 140 = .ok (.aload_n 0, 1) := by decide +kernel
set_option maxRecDepth 100000 in
theorem dX9_works_141 : decode cX9_works 141 = .ok (.getfield 35, 3) := by decide +kernel
set_option maxRecDepth 100000 in
theorem dX9_works_144 : decode cX9_works 144 = .ok (.aload_n 0, 1) := by decide +kernel
set_option maxRecDepth 100000 in
theorem dX9_works_145 : decode cX9_works 145 = .ok (.getfield 86, 3) := by decide +kernel
set_option maxRecDepth 100000 in
theorem dX9_works_148 : decode cX9_works 148 = .ok (.iconst 1, 1) := by decide +kernel
set_option maxRecDepth 100000 in
theorem dX9_works_149 : decode cX9_works 149 = .ok (.isub, 1) := by decide +kernel
set_option maxRecDepth 100000 in
theorem dX9_works_150 : decode cX9_works 150 = .ok (.daload, 1) := by decide +kernel
set_option maxRecDepth 100000 in
theorem dX9_works_151 : decode cX9_works 151 = .ok (.dneg, 1) := by decide +kernel
set_option maxRecDepth 100000 in
theorem dX9_works_152 : decode cX9_works 152 = .ok (.dastore, 1) := by decide +kernel
set_option maxRecDepth 100000 in
theorem dX9_works_153 : decode cX9_works 153 = .ok (.goto 276, 3) := by decide +kernel
set_option maxRecDepth 100000 in
theorem dX9_works_156 : decode cX9_works 156 = .ok (.aload_n 0, 1) := by decide +kernel
set_option maxRecDepth 100000 in
theorem dX9_works_157 : decode cX9_works 157 = .ok (.getfield 35, 3) := by decide +kernel
set_option maxRecDepth 100000 in
theorem dX9_works_160 : decode cX9_works 160 = .ok (.aload_n 0, 1) := by decide +kernel
set_option maxRecDepth 100000 in
theorem dX9_works_161 : decode cX9_works 161 = .ok (.getfield 86, 3) := by decide +kernel
set_option maxRecDepth 100000 in
theorem dX9_works_164 : decode cX9_works 164 = .ok (.iconst 1, 1) := by decide +kernel
set_option maxRecDepth 100000 in
theorem dX9_works_165 : decode cX9_works 165 = .ok (.isub, 1) := by decide +kernel
set_option maxRecDepth 100000 in
theorem dX9_works_166 : decode cX9_works 166 = .ok (.aload_n 0, 1) := by decide +kernel
set_option maxRecDepth 100000 in
theorem dX9_works_167 : decode cX9_works 167 = .ok (.getfield 28, 3) := by decide +kernel
set_option maxRecDepth 100000 in
theorem dX9_works_170 : decode cX9_works 170 = .ok (.aload_n 0, 1) := by decide +kernel
set_option maxRecDepth 100000 in
theorem dX9_works_171 : decode cX9_works 171 = .ok (.getfield 86, 3) := by decide +kernel
set_option maxRecDepth 100000 in
theorem dX9_works_174 : decode cX9_works 174 = .ok (.iconst 1, 1) := by decide +kernel
set_option maxRecDepth 100000 in
theorem dX9_works_175 : decode cX9_works 175 = .ok (.isub, 1) := by decide +kernel
set_option maxRecDepth 100000 in
theorem dX9_works_176 : decode cX9_works 176 = .ok (.laload, 1) := by decide +kernel
set_option maxRecDepth 100000 in
theorem dX9_works_177 : decode cX9_works 177 = .ok (.l2d, 1) := by decide +kernel
set_option maxRecDepth 100000 in
theorem dX9_works_178 : decode cX9_works 178 = .ok (.dastore, 1) := by decide +kernel
set_option maxRecDepth 100000 in
theorem dX9_works_179 : decode cX9_works 179 = .ok (.goto 250, 3) := by decide +kernel
set_option maxRecDepth 100000 in
theorem dX9_works_182 : decode cX9_works 182 = .ok (.aload_n 0, 1) := by decide +kernel
set_option maxRecDepth 100000 in
theorem dX9_works_183 : decode cX9_works 183 = .ok (.getfield 35, 3) := by decide +kernel
set_option maxRecDepth 100000 in
theorem dX9_works_186 : decode cX9_works 186 = .ok (.aload_n 0, 1) := by decide +kernel
set_option maxRecDepth 100000 in
theorem dX9_works_187 : decode cX9_works 187 = .ok (.getfield 86, 3) := by decide +kernel
set_option maxRecDepth 100000 in
theorem dX9_works_190 : decode cX9_works 190 = .ok (.iconst 2, 1) := by decide +kernel
set_option maxRecDepth 100000 in
theorem dX9_works_191 : decode cX9_works 191 = .ok (.isub, 1) := by decide +kernel
set_option maxRecDepth 100000 in
theorem dX9_works_192 : decode cX9_works 192 = .ok (.aload_n 0, 1) := by decide +kernel
set_option maxRecDepth 100000 in
theorem dX9_works_193 : decode cX9_works 193 = .ok (.getfield 28, 3) := by decide +kernel
set_option maxRecDepth 100000 in
theorem dX9_works_196 : decode cX9_works 196 = .ok (.aload_n 0, 1) := by decide +kernel
set_option maxRecDepth 100000 in
theorem dX9_works_197 : decode cX9_works 197 = .ok (.getfield 86, 3) := by decide +kernel
set_option maxRecDepth 100000 in
theorem dX9_works_200 : decode cX9_works 200 = .ok (.iconst 2, 1) := by decide +kernel
set_option maxRecDepth 100000 in
theorem dX9_works_201 : decode cX9_works 201 = .ok (.isub, 1) := by decide +kernel
set_option maxRecDepth 100000 in
theorem dX9_works_202 : decode cX9_works 202 = .ok (.laload, 1) := by decide +kernel
set_option maxRecDepth 100000 in
theorem dX9_works_203 : decode cX9_works 203 = .ok (.l2d, 1) := by decide +kernel
set_option maxRecDepth 100000 in
theorem dX9_works_204 : decode cX9_works 204 = .ok (.dastore, 1) := by decide +kernel
set_option maxRecDepth 100000 in
theorem dX9_works_205 : decode cX9_works 205 = .ok (.goto 224, 3) := by decide +kernel
set_option maxRecDepth 100000 in
theorem dX9_works_208 : decode cX9_works 208 = .ok (.aload_n 0, 1) := by decide +kernel
set_option maxRecDepth 100000 in
theorem dX9_works_209 : decode cX9_works 209 = .ok (.getfield 28, 3) := by decide +kernel
set_option maxRecDepth 100000 in
theorem dX9_works_212 : decode cX9_works 212 = .ok (.aload_n 0, 1) := by decide +kernel
set_option maxRecDepth 100000 in
theorem dX9_works_213 : decode cX9_works 213 = .ok (.getfield 86, 3) := by decide +kernel
set_option maxRecDepth 100000 in
theorem dX9_works_216 : decode cX9_works 216 = .ok (.iconst 1, 1) := by decide +kernel
set_option maxRecDepth 100000 in
theorem dX9_works_217 : decode cX9_works 217 = .ok (.isub, 1) := by decide +kernel
set_option maxRecDepth 100000 in
theorem dX9_works_218 : decode cX9_works 218 = .ok (.lconst 1, 1) := by decide +kernel
set_option maxRecDepth 100000 in
theorem dX9_works_219 : decode cX9_works 219 = .ok (.aload_n 0, 1) := by decide +kernel
set_option maxRecDepth 100000 in
theorem dX9_works_220 : decode cX9_works 220 = .ok (.getfield 28, 3) := by decide +kernel
set_option maxRecDepth 100000 in
theorem dX9_works_223 : decode cX9_works 223 = .ok (.aload_n 0, 1) := by decide +kernel
set_option maxRecDepth 100000 in
theorem dX9_works_224 : decode cX9_works 224 = .ok (.getfield 86, 3) := by decide +kernel
set_option maxRecDepth 100000 in
theorem dX9_works_227 : decode cX9_works 227 = .ok (.iconst 1, 1) := by decide +kernel
set_option maxRecDepth 100000 in
theorem dX9_works_228 : decode cX9_works 228 = .ok (.isub, 1) := by decide +kernel
set_option maxRecDepth 100000 in
theorem dX9_works_229 : decode cX9_works 229 = .ok (.laload, 1) := by decide +kernel
set_option maxRecDepth 100000 in
theorem dX9_works_230 : decode cX9_works 230 = .ok (.lsub, 1) := by decide +kernel
set_option maxRecDepth 100000 in
theorem dX9_works_231 : decode cX9_works 231 = .ok (.lastore, 1) := by decide +kernel
set_option maxRecDepth 100000 in
theorem dX9_works_232 : decode cX9_works 232 = .ok (.goto 197, 3) := by decide +kernel
set_option maxRecDepth 100000 in
theorem dX9_works_235 : decode cX9_works 235 = .ok (.aload_n 0, 1) := by decide +kernel
set_option maxRecDepth 100000 in
theorem dX9_works_236 : decode cX9_works 236 = .ok (.lconst 0, 1) := by decide +kernel
set_option maxRecDepth 100000 in
theorem dX9_works_237 : decode cX9_works 237 = .ok (.invokevirtual 207, 3) := by decide +kernel
set_option maxRecDepth 100000 in
theorem dX9_works_240 : decode cX9_works 240 = .ok (.aload_n 0, 1) := by decide +kernel
set_option maxRecDepth 100000 in
theorem dX9_works_241 : decode cX9_works 241 = .ok (.getfield 32, 3) := by decide +kernel
set_option maxRecDepth 100000 in
theorem dX9_works_244 : decode cX9_works 244 = .ok (.aload_n 0, 1) := by decide +kernel
set_option maxRecDepth 100000 in
theorem dX9_works_245 : decode cX9_works 245 = .ok (.getfield 86, 3) := by decide +kernel
set_option maxRecDepth 100000 in
theorem dX9_works_248 : decode cX9_works 248 = .ok (.iconst 1, 1) := by decide +kernel
set_option maxRecDepth 100000 in
theorem dX9_works_249 : decode cX9_works 249 = .ok (.isub, 1) := by decide +kernel
set_option maxRecDepth 100000 in
theorem dX9_works_250 : decode cX9_works 250 = .ok (.lconst 0, 1) := by decide +kernel
set_option maxRecDepth 100000 in
theorem dX9_works_251 : decode cX9_works 251 = .ok (.lastore, 1) := by decide +kernel
set_option maxRecDepth 100000 in
theorem dX9_works_252 : decode cX9_works 252 = .ok (.goto 177, 3) := by decide +kernel
set_option maxRecDepth 100000 in
theorem dX9_works_255 : decode cX9_works 255 = .ok (.aload_n 0, 1) := by decide +kernel
set_option maxRecDepth 100000 in
theorem dX9_works_256 : decode cX9_works 256 = .ok (.iload_n 3, 1) := by decide +kernel
set_option maxRecDepth 100000 in
theorem dX9_works_257 : decode cX9_works 257 = .ok (.invokevirtual 290, 3) := by decide +kernel
set_option maxRecDepth 100000 in
theorem dX9_works_260 : decode cX9_works 260 = .ok (.goto 169, 3) := by decide +kernel
set_option maxRecDepth 100000 in
theorem dX9_works_263 : decode cX9_works 263 = .ok (.aload_n 0, 1) := by decide +kernel
set_option maxRecDepth 100000 in
theorem dX9_works_264 : decode cX9_works 264 = .ok (.dup, 1) := by decide +kernel
set_option maxRecDepth 100000 in
theorem dX9_works_265 : decode cX9_works 265 = .ok (.getfield 86, 3) := by decide +kernel
set_option maxRecDepth 100000 in
theorem dX9_works_268 : decode cX9_works 268 = .ok (.iconst 1, 1) := by decide +kernel
set_option maxRecDepth 100000 in
theorem dX9_works_269 : decode cX9_works 269 = .ok (.isub, 1) := by decide +kernel
set_option maxRecDepth 100000 in
theorem dX9_works_270 : decode cX9_works 270 = .ok (.putfield 86, 3) := by decide +kernel
set_option maxRecDepth 100000 in
theorem dX9_works_273 : decode cX9_works 273 = .ok (.aload_n 0, 1) := by decide +kernel
set_option maxRecDepth 100000 in
theorem dX9_works_274 : decode cX9_works 274 = .ok (.getfield 28, 3) := by decide +kernel
set_option maxRecDepth 100000 in
theorem dX9_works_277 : decode cX9_works 277 = .ok (.aload_n 0, 1) := by decide +kernel
set_option maxRecDepth 100000 in
theorem dX9_works_278 : decode cX9_works 278 = .ok (.getfield 86, 3) := by decide +kernel
set_option maxRecDepth 100000 in
theorem dX9_works_281 : decode cX9_works 281 = .ok (.laload, 1) := by decide +kernel
set_option maxRecDepth 100000 in
theorem dX9_works_282 : decode cX9_works 282 = .ok (.lconst 0, 1) := by decide +kernel
set_option maxRecDepth 100000 in
theorem dX9_works_283 : decode cX9_works 283 = .ok (.lcmp, 1) := by decide +kernel
set_option maxRecDepth 100000 in
theorem dX9_works_284 : decode cX9_works 284 = .ok (.ifCond .lt 19, 3) := by decide +kernel
set_option maxRecDepth 100000 in
theorem dX9_works_287 : decode cX9_works 287 = .ok (.aload_n 0, 1) := by decide +kernel
set_option maxRecDepth 100000 in
theorem dX9_works_288 : decode cX9_works 288 = .ok (.getfield 28, 3) := by decide +kernel
set_option maxRecDepth 100000 in
theorem dX9_works_291 : decode cX9_works 291 = .ok (.aload_n 0, 1) := by decide +kernel
set_option maxRecDepth 100000 in
theorem dX9_works_292 : decode cX9_works 292 = .ok (.getfield 86, 3) := by decide +kernel
set_option maxRecDepth 100000 in
theorem dX9_works_295 : decode cX9_works 295 = .ok (.laload, 1) := by decide +kernel
set_option maxRecDepth 100000 in
theorem dX9_works_296 : decode cX9_works 296 = .ok (.ldc2_w 293, 3) := by decide +kernel
set_option maxRecDepth 100000 in
theorem dX9_works_299 : decode cX9_works 299 = .ok (.lcmp, 1) := by decide +kernel
set_option maxRecDepth 100000 in
theorem dX9_works_300 : decode cX9_works 300 = .ok (.ifCond .le 12, 3) := by decide +kernel
set_option maxRecDepth 100000 in
theorem dX9_works_303 : decode cX9_works 303 = .ok (.aload_n 0, 1) := by decide +kernel
set_option maxRecDepth 100000 in
theorem dX9_works_304 : decode cX9_works 304 = .ok (.iconst 1, 1) := by decide +kernel
set_option maxRecDepth 100000 in
theorem dX9_works_305 : decode cX9_works 305 = .ok (.iload_n 3, 1) := by decide +kernel
set_option maxRecDepth 100000 in
theorem dX9_works_306 : decode cX9_works 306 = .ok (.invokevirtual 147, 3) := by decide +kernel
set_option maxRecDepth 100000 in
theorem dX9_works_309 : decode cX9_works 309 = .ok (.goto 120, 3) := by decide +kernel
set_option maxRecDepth 100000 in
theorem dX9_works_312 : decode cX9_works 312 = .ok (.aload_n 0, 1) := by decide +kernel
set_option maxRecDepth 100000 in
theorem dX9_works_313 : decode cX9_works 313 = .ok (.aload_n 0, 1) := by decide +kernel
set_option maxRecDepth 100000 in
theorem dX9_works_314 : decode cX9_works 314 = .ok (.getfield 28, 3) := by decide +kernel
set_option maxRecDepth 100000 in
theorem dX9_works_317 : decode cX9_works 317 = .ok (.aload_n 0, 1) := by decide +kernel
set_option maxRecDepth 100000 in
theorem dX9_works_318 : decode cX9_works 318 = .ok (.getfield 86, 3) := by decide +kernel
set_option maxRecDepth 100000 in
theorem dX9_works_321 : decode cX9_works 321 = .ok (.laload, 1) := by decide +kernel
set_option maxRecDepth 100000 in
theorem dX9_works_322 : decode cX9_works 322 = .ok (.l2i, 1) := by decide +kernel
set_option maxRecDepth 100000 in
theorem dX9_works_323 : decode cX9_works 323 = .ok (.invokevirtual 295, 3) := by decide +kernel
set_option maxRecDepth 100000 in
theorem dX9_works_326 : decode cX9_works 326 = .ok (.goto 103, 3) := by decide +kernel
set_option maxRecDepth 100000 in
theorem dX9_works_329 : decode cX9_works 329 = .ok (.aload_n 0, 1) := by decide +kernel
set_option maxRecDepth 100000 in
theorem dX9_works_330 : decode cX9_works 330 = .ok (.dup, 1) := by decide +kernel
set_option maxRecDepth 100000 in
theorem dX9_works_331 : decode cX9_works 331 = .ok (.getfield 86, 3) := by decide +kernel
set_option maxRecDepth 100000 in
theorem dX9_works_334 : decode cX9_works 334 = .ok (.iconst 1, 1) := by decide +kernel
set_option maxRecDepth 100000 in
theorem dX9_works_335 : decode cX9_works 335 = .ok (.isub, 1) := by decide +kernel
set_option maxRecDepth 100000 in
theorem dX9_works_336 : decode cX9_works 336 = .ok (.putfield 86, 3) := by decide +kernel
set_option maxRecDepth 100000 in
theorem dX9_works_339 : decode cX9_works 339 = .ok (.iload_n 1, 1) := by decide +kernel
set_option maxRecDepth 100000 in
theorem dX9_works_340 : decode cX9_works 340 = .ok (.bipush 26, 2) := by decide +kernel
set_option maxRecDepth 100000 in
theorem dX9_works_342 : decode cX9_works 342 = .ok (.if_icmp .ge 32, 3) := by decide +kernel
set_option maxRecDepth 100000 in
theorem dX9_works_345 : decode cX9_works 345 = .ok (.aload_n 0, 1) := by decide +kernel
set_option maxRecDepth 100000 in
theorem dX9_works_346 : decode cX9_works 346 = .ok (.iload_n 1, 1) := by decide +kernel
set_option maxRecDepth 100000 in
theorem dX9_works_347 : decode cX9_works 347 = .ok (.aload_n 0, 1) := by decide +kernel
set_option maxRecDepth 100000 in
theorem dX9_works_348 : decode cX9_works 348 = .ok (.getfield 28, 3) := by decide +kernel
set_option maxRecDepth 100000 in
theorem dX9_works_351 : decode cX9_works 351 = .ok (.aload_n 0, 1) := by decide +kernel
set_option maxRecDepth 100000 in
theorem dX9_works_352 : decode cX9_works 352 = .ok (.getfield 86, 3) := by decide +kernel
set_option maxRecDepth 100000 in
theorem dX9_works_355 : decode cX9_works 355 = .ok (.iconst 1, 1) := by decide +kernel
set_option maxRecDepth 100000 in
theorem dX9_works_356 : decode cX9_works 356 = .ok (.isub, 1) := by decide +kernel
set_option maxRecDepth 100000 in
theorem dX9_works_357 : decode cX9_works 357 = .ok (.laload, 1) := by decide +kernel
set_option maxRecDepth 100000 in
theorem dX9_works_358 : decode cX9_works 358 = .ok (.aload_n 0, 1) := by decide +kernel
set_option maxRecDepth 100000 in
theorem dX9_works_359 : decode cX9_works 359 = .ok (.getfield 28, 3) := by decide +kernel
set_option maxRecDepth 100000 in
theorem dX9_works_362 : decode cX9_works 362 = .ok (.aload_n 0, 1) := by decide +kernel
set_option maxRecDepth 100000 in
theorem dX9_works_363 : decode cX9_works 363 = .ok (.getfield 86, 3) := by decide +kernel
set_option maxRecDepth 100000 in
theorem dX9_works_366 : decode cX9_works 366 = .ok (.laload, 1) := by decide +kernel
set_option maxRecDepth 100000 in
theorem dX9_works_367 : decode cX9_works 367 = .ok (.iload_n 3, 1) := by decide +kernel
set_option maxRecDepth 100000 in
theorem dX9_works_368 : decode cX9_works 368 = .ok (.invokevirtual 298, 3) := by decide +kernel
set_option maxRecDepth 100000 in
theorem dX9_works_371 : decode cX9_works 371 = .ok (.goto 58, 3) := by decide +kernel
set_option maxRecDepth 100000 in
theorem dX9_works_374 : decode cX9_works 374 = .ok (.iload_n 1, 1) := by decide +kernel
set_option maxRecDepth 100000 in
theorem dX9_works_375 : decode cX9_works 375 = .ok (.bipush 30, 2) := by decide +kernel
set_option maxRecDepth 100000 in
theorem dX9_works_377 : decode cX9_works 377 = .ok (.if_icmp .ge 32, 3) := by decide +kernel
set_option maxRecDepth 100000 in
theorem dX9_works_380 : decode cX9_works 380 = .ok (.aload_n 0, 1) := by decide +kernel
set_option maxRecDepth 100000 in
theorem dX9_works_381 : decode cX9_works 381 = .ok (.iload_n 1, 1) := by decide +kernel
set_option maxRecDepth 100000 in
theorem dX9_works_382 : decode cX9_works 382 = .ok (.aload_n 0, 1) := by decide +kernel
set_option maxRecDepth 100000 in
theorem dX9_works_383 : decode cX9_works 383 = .ok (.getfield 35, 3) := by decide +kernel
set_option maxRecDepth 100000 in
theorem dX9_works_386 : decode cX9_works 386 = .ok (.aload_n 0, 1) := by decide +kernel
set_option maxRecDepth 100000 in
theorem dX9_works_387 : decode cX9_works 387 = .ok (.getfield 86, 3) := by decide +kernel
set_option maxRecDepth 100000 in
theorem dX9_works_390 : decode cX9_works 390 = .ok (.iconst 1, 1) := by decide +kernel
set_option maxRecDepth 100000 in
theorem dX9_works_391 : decode cX9_works 391 = .ok (.isub, 1) := by decide +kernel
set_option maxRecDepth 100000 in
theorem dX9_works_392 : decode cX9_works 392 = .ok (.daload, 1) := by decide +kernel
set_option maxRecDepth 100000 in
theorem dX9_works_393 : decode cX9_works 393 = .ok (.aload_n 0, 1) := by decide +kernel
set_option maxRecDepth 100000 in
theorem dX9_works_394 : decode cX9_works 394 = .ok (.getfield 35, 3) := by decide +kernel
set_option maxRecDepth 100000 in
theorem dX9_works_397 : decode cX9_works 397 = .ok (.aload_n 0, 1) := by decide +kernel
set_option maxRecDepth 100000 in
theorem dX9_works_398 : decode cX9_works 398 = .ok (.getfield 86, 3) := by decide +kernel
set_option maxRecDepth 100000 in
theorem dX9_works_401 : decode cX9_works 401 = .ok (.daload, 1) := by decide +kernel
set_option maxRecDepth 100000 in
theorem dX9_works_402 : decode cX9_works 402 = .ok (.iload_n 3, 1) := by decide +kernel
set_option maxRecDepth 100000 in
theorem dX9_works_403 : decode cX9_works 403 = .ok (.invokevirtual 302, 3) := by decide +kernel
set_option maxRecDepth 100000 in
theorem dX9_works_406 : decode cX9_works 406 = .ok (.goto 23, 3) := by decide +kernel
set_option maxRecDepth 100000 in
theorem dX9_works_409 : decode cX9_works 409 = .ok (.iload_n 1, 1) := by decide +kernel
set_option maxRecDepth 100000 in
theorem dX9_works_410 : decode cX9_works 410 = .ok (.bipush 41, 2) := by decide +kernel
set_option maxRecDepth 100000 in
theorem dX9_works_412 : decode cX9_works 412 = .ok (.if_icmp .ge 12, 3) := by decide +kernel
set_option maxRecDepth 100000 in
theorem dX9_works_415 : decode cX9_works 415 = .ok (.aload_n 0, 1) := by decide +kernel
set_option maxRecDepth 100000 in
theorem dX9_works_416 : decode cX9_works 416 = .ok (.iload_n 1, 1) := by decide +kernel
set_option maxRecDepth 100000 in
theorem dX9_works_417 : decode cX9_works 417 = .ok (.iload_n 2, 1) := by decide +kernel
set_option maxRecDepth 100000 in
theorem dX9_works_418 : decode cX9_works 418 = .ok (.invokevirtual 306, 3) := by decide +kernel
set_option maxRecDepth 100000 in
theorem dX9_works_421 : decode cX9_works 421 = .ok (.goto 8, 3) := by decide +kernel
set_option maxRecDepth 100000 in
theorem dX9_works_424 : decode cX9_works 424 = .ok (.aload_n 0, 1) := by decide +kernel
set_option maxRecDepth 100000 in
theorem dX9_works_425 : decode cX9_works 425 = .ok (.iload_n 1, 1) := by decide +kernel
set_option maxRecDepth 100000 in
theorem dX9_works_426 : decode cX9_works 426 = .ok (.invokevirtual 309, 3) := by decide +kernel
set_option maxRecDepth 100000 in
theorem dX9_works_429 : decode cX9_works 429 = .ok (.return_, 1) := by decide +kernel
set_option maxRecDepth 100000 in
def bX9_works_429 (G : xG) (fr lo : Nat) (h : xH) (Q : Outcome → xH → Prop) : Prop := Q (.returned none) h
set_option maxRecDepth 100000 in
theorem uX9_works_429 {G : xG} {fr lo : Nat} {h : xH} {Q : Outcome → xH → Prop} (hq : bX9_works_429 G fr lo h Q) : xP G YX9_works fr lo 429 [] [] h Q := by
  unfold bX9_works_429 at hq
  exact x_vret rfl dX9_works_429 hq
set_option maxRecDepth 100000 in
def bX9_works_303 (G : xG) (fr lo : Nat) (x0 : Nat) (x3 : Int32) (h : xH) (Q : Outcome → xH → Prop) : Prop := tg h x0 = 10 ∧ 1 ≤ fr ∧ 14 ≤ lo ∧ xRv G YX9_fail (fr - 1) (lo - 14) [rv x0, .int 1, .int x3] h (fun h4 => xext h h4 → bX9_works_429 G fr lo h4 Q) (fun r h2 => Q (.threw r) h2)
set_option maxRecDepth 100000 in
theorem uX9_works_303 {G : xG} {fr lo : Nat} {x0 : Nat} {x3 : Int32} {h : xH} {Q : Outcome → xH → Prop} (hq : bX9_works_303 G fr lo x0 x3 h Q) : xP G YX9_works fr lo 303 [(0, rv x0), (3, .int x3)] [] h Q := by
  unfold bX9_works_303 at hq
  refine x_aload_n 0 dX9_works_303 rfl ?_
  refine x_iconst (v := 1) dX9_works_304 (by decide) ?_
  refine x_iload_n 1 dX9_works_305 rfl ?_
  obtain ⟨g1, hq⟩ := hq
  obtain ⟨g2, g3, hq⟩ := hq
  refine x_callV (Yc := YX9_fail) (as := [.int 1, .int x3]) (st := []) q2835 mvX9_fail g1 rfl dX9_works_306 (xle (xal1 (rv_cat _) (xal1 rfl (xal1 rfl xal0))) (by decide)) (xfr g2) (xlo xsw0 (by decide) g3) (xKv hq (fun h4 hq e6 => ?_) (fun _ _ q _ => q))
  replace hq := hq e6
  refine x_goto (tgt := 429) dX9_works_309 (by decide) ?_
  refine xP.pick (lv' := []) [] rfl ?_
  exact uX9_works_429 hq
set_option maxRecDepth 100000 in
def bX9_works (G : xG) (fr lo : Nat) (x0 : Nat) (x1 : Int32) (x2 : Int32) (h : xH) (Q : Outcome → xH → Prop) : Prop := tg h x0 = 10 ∧ tg h (fR h x0 2304) = 3 ∧ tg h (fR h (fR h x0 2304) 516) = 100 ∧ vp_in x2 (ln h (fR h (fR h x0 2304) 516)) ∧ ((x1 = 25 → tg h (fR h x0 2307) = 101 ∧ vp_in ((fI h x0 2310) - 1) (ln h (fR h x0 2307)) ∧ vp_in ((fI h x0 2310) - 1) (ln h (fR h x0 2307)) ∧ (∀ h9 : xH, h9 = tJ h (fR h x0 2307) (Int32.toNatClampNeg ((fI h x0 2310) - 1)) (-(aJ h (fR h x0 2307) (Int32.toNatClampNeg ((fI h x0 2310) - 1)))) → bX9_works_429 G fr lo h9 Q)) ∧ (x1 = 26 → (∀ h12 : xH, h12 = sI h x0 2310 ((fI h x0 2310) - 1) → ((26 ≤ x1 → ((30 ≤ x1 → ((41 ≤ x1 → 1 ≤ fr ∧ 17 ≤ lo ∧ xRv G YX9_ofSets (fr - 1) (lo - 17) [rv x0, .int x1] h12 (fun h20 => xext h12 h20 → bX9_works_429 G fr lo h20 Q) (fun r h2 => Q (.threw r) h2)) ∧ (¬ 41 ≤ x1 → 1 ≤ fr ∧ 20 ≤ lo ∧ xRv G YX9_compares (fr - 1) (lo - 20) [rv x0, .int x1, .int x2] h12 (fun h26 => xext h12 h26 → bX9_works_429 G fr lo h26 Q) (fun r h2 => Q (.threw r) h2)))) ∧ (¬ 30 ≤ x1 → tg h12 (fR h12 x0 2309) = 102 ∧ vp_in ((fI h12 x0 2310) - 1) (ln h12 (fR h12 x0 2309)) ∧ vp_in (fI h12 x0 2310) (ln h12 (fR h12 x0 2309)) ∧ 1 ≤ fr ∧ 18 ≤ lo ∧ xRv G YX9_ofFractions (fr - 1) (lo - 18) [rv x0, .int x1, .double (aD h12 (fR h12 x0 2309) (Int32.toNatClampNeg ((fI h12 x0 2310) - 1))), .double (aD h12 (fR h12 x0 2309) (Int32.toNatClampNeg (fI h12 x0 2310))), .int (aI h (fR h (fR h x0 2304) 516) (Int32.toNatClampNeg x2))] h12 (fun h35 => xext h12 h35 → bX9_works_429 G fr lo h35 Q) (fun r h2 => Q (.threw r) h2)))) ∧ (¬ 26 ≤ x1 → tg h12 (fR h12 x0 2307) = 101 ∧ vp_in ((fI h12 x0 2310) - 1) (ln h12 (fR h12 x0 2307)) ∧ vp_in (fI h12 x0 2310) (ln h12 (fR h12 x0 2307)) ∧ 1 ≤ fr ∧ 18 ≤ lo ∧ xRv G YX9_ofWholes (fr - 1) (lo - 18) [rv x0, .int x1, .long (aJ h12 (fR h12 x0 2307) (Int32.toNatClampNeg ((fI h12 x0 2310) - 1))), .long (aJ h12 (fR h12 x0 2307) (Int32.toNatClampNeg (fI h12 x0 2310))), .int (aI h (fR h (fR h x0 2304) 516) (Int32.toNatClampNeg x2))] h12 (fun h44 => xext h12 h44 → bX9_works_429 G fr lo h44 Q) (fun r h2 => Q (.threw r) h2))))) ∧ (x1 = 27 → (∀ h48 : xH, h48 = sI h x0 2310 ((fI h x0 2310) - 1) → ((26 ≤ x1 → ((30 ≤ x1 → ((41 ≤ x1 → 1 ≤ fr ∧ 17 ≤ lo ∧ xRv G YX9_ofSets (fr - 1) (lo - 17) [rv x0, .int x1] h48 (fun h56 => xext h48 h56 → bX9_works_429 G fr lo h56 Q) (fun r h2 => Q (.threw r) h2)) ∧ (¬ 41 ≤ x1 → 1 ≤ fr ∧ 20 ≤ lo ∧ xRv G YX9_compares (fr - 1) (lo - 20) [rv x0, .int x1, .int x2] h48 (fun h62 => xext h48 h62 → bX9_works_429 G fr lo h62 Q) (fun r h2 => Q (.threw r) h2)))) ∧ (¬ 30 ≤ x1 → tg h48 (fR h48 x0 2309) = 102 ∧ vp_in ((fI h48 x0 2310) - 1) (ln h48 (fR h48 x0 2309)) ∧ vp_in (fI h48 x0 2310) (ln h48 (fR h48 x0 2309)) ∧ 1 ≤ fr ∧ 18 ≤ lo ∧ xRv G YX9_ofFractions (fr - 1) (lo - 18) [rv x0, .int x1, .double (aD h48 (fR h48 x0 2309) (Int32.toNatClampNeg ((fI h48 x0 2310) - 1))), .double (aD h48 (fR h48 x0 2309) (Int32.toNatClampNeg (fI h48 x0 2310))), .int (aI h (fR h (fR h x0 2304) 516) (Int32.toNatClampNeg x2))] h48 (fun h71 => xext h48 h71 → bX9_works_429 G fr lo h71 Q) (fun r h2 => Q (.threw r) h2)))) ∧ (¬ 26 ≤ x1 → tg h48 (fR h48 x0 2307) = 101 ∧ vp_in ((fI h48 x0 2310) - 1) (ln h48 (fR h48 x0 2307)) ∧ vp_in (fI h48 x0 2310) (ln h48 (fR h48 x0 2307)) ∧ 1 ≤ fr ∧ 18 ≤ lo ∧ xRv G YX9_ofWholes (fr - 1) (lo - 18) [rv x0, .int x1, .long (aJ h48 (fR h48 x0 2307) (Int32.toNatClampNeg ((fI h48 x0 2310) - 1))), .long (aJ h48 (fR h48 x0 2307) (Int32.toNatClampNeg (fI h48 x0 2310))), .int (aI h (fR h (fR h x0 2304) 516) (Int32.toNatClampNeg x2))] h48 (fun h80 => xext h48 h80 → bX9_works_429 G fr lo h80 Q) (fun r h2 => Q (.threw r) h2))))) ∧ (x1 = 28 → (∀ h84 : xH, h84 = sI h x0 2310 ((fI h x0 2310) - 1) → ((26 ≤ x1 → ((30 ≤ x1 → ((41 ≤ x1 → 1 ≤ fr ∧ 17 ≤ lo ∧ xRv G YX9_ofSets (fr - 1) (lo - 17) [rv x0, .int x1] h84 (fun h92 => xext h84 h92 → bX9_works_429 G fr lo h92 Q) (fun r h2 => Q (.threw r) h2)) ∧ (¬ 41 ≤ x1 → 1 ≤ fr ∧ 20 ≤ lo ∧ xRv G YX9_compares (fr - 1) (lo - 20) [rv x0, .int x1, .int x2] h84 (fun h98 => xext h84 h98 → bX9_works_429 G fr lo h98 Q) (fun r h2 => Q (.threw r) h2)))) ∧ (¬ 30 ≤ x1 → tg h84 (fR h84 x0 2309) = 102 ∧ vp_in ((fI h84 x0 2310) - 1) (ln h84 (fR h84 x0 2309)) ∧ vp_in (fI h84 x0 2310) (ln h84 (fR h84 x0 2309)) ∧ 1 ≤ fr ∧ 18 ≤ lo ∧ xRv G YX9_ofFractions (fr - 1) (lo - 18) [rv x0, .int x1, .double (aD h84 (fR h84 x0 2309) (Int32.toNatClampNeg ((fI h84 x0 2310) - 1))), .double (aD h84 (fR h84 x0 2309) (Int32.toNatClampNeg (fI h84 x0 2310))), .int (aI h (fR h (fR h x0 2304) 516) (Int32.toNatClampNeg x2))] h84 (fun h107 => xext h84 h107 → bX9_works_429 G fr lo h107 Q) (fun r h2 => Q (.threw r) h2)))) ∧ (¬ 26 ≤ x1 → tg h84 (fR h84 x0 2307) = 101 ∧ vp_in ((fI h84 x0 2310) - 1) (ln h84 (fR h84 x0 2307)) ∧ vp_in (fI h84 x0 2310) (ln h84 (fR h84 x0 2307)) ∧ 1 ≤ fr ∧ 18 ≤ lo ∧ xRv G YX9_ofWholes (fr - 1) (lo - 18) [rv x0, .int x1, .long (aJ h84 (fR h84 x0 2307) (Int32.toNatClampNeg ((fI h84 x0 2310) - 1))), .long (aJ h84 (fR h84 x0 2307) (Int32.toNatClampNeg (fI h84 x0 2310))), .int (aI h (fR h (fR h x0 2304) 516) (Int32.toNatClampNeg x2))] h84 (fun h116 => xext h84 h116 → bX9_works_429 G fr lo h116 Q) (fun r h2 => Q (.threw r) h2))))) ∧ (x1 = 29 → (∀ h120 : xH, h120 = sI h x0 2310 ((fI h x0 2310) - 1) → ((26 ≤ x1 → ((30 ≤ x1 → ((41 ≤ x1 → 1 ≤ fr ∧ 17 ≤ lo ∧ xRv G YX9_ofSets (fr - 1) (lo - 17) [rv x0, .int x1] h120 (fun h128 => xext h120 h128 → bX9_works_429 G fr lo h128 Q) (fun r h2 => Q (.threw r) h2)) ∧ (¬ 41 ≤ x1 → 1 ≤ fr ∧ 20 ≤ lo ∧ xRv G YX9_compares (fr - 1) (lo - 20) [rv x0, .int x1, .int x2] h120 (fun h134 => xext h120 h134 → bX9_works_429 G fr lo h134 Q) (fun r h2 => Q (.threw r) h2)))) ∧ (¬ 30 ≤ x1 → tg h120 (fR h120 x0 2309) = 102 ∧ vp_in ((fI h120 x0 2310) - 1) (ln h120 (fR h120 x0 2309)) ∧ vp_in (fI h120 x0 2310) (ln h120 (fR h120 x0 2309)) ∧ 1 ≤ fr ∧ 18 ≤ lo ∧ xRv G YX9_ofFractions (fr - 1) (lo - 18) [rv x0, .int x1, .double (aD h120 (fR h120 x0 2309) (Int32.toNatClampNeg ((fI h120 x0 2310) - 1))), .double (aD h120 (fR h120 x0 2309) (Int32.toNatClampNeg (fI h120 x0 2310))), .int (aI h (fR h (fR h x0 2304) 516) (Int32.toNatClampNeg x2))] h120 (fun h143 => xext h120 h143 → bX9_works_429 G fr lo h143 Q) (fun r h2 => Q (.threw r) h2)))) ∧ (¬ 26 ≤ x1 → tg h120 (fR h120 x0 2307) = 101 ∧ vp_in ((fI h120 x0 2310) - 1) (ln h120 (fR h120 x0 2307)) ∧ vp_in (fI h120 x0 2310) (ln h120 (fR h120 x0 2307)) ∧ 1 ≤ fr ∧ 18 ≤ lo ∧ xRv G YX9_ofWholes (fr - 1) (lo - 18) [rv x0, .int x1, .long (aJ h120 (fR h120 x0 2307) (Int32.toNatClampNeg ((fI h120 x0 2310) - 1))), .long (aJ h120 (fR h120 x0 2307) (Int32.toNatClampNeg (fI h120 x0 2310))), .int (aI h (fR h (fR h x0 2304) 516) (Int32.toNatClampNeg x2))] h120 (fun h152 => xext h120 h152 → bX9_works_429 G fr lo h152 Q) (fun r h2 => Q (.threw r) h2))))) ∧ (x1 = 30 → tg h (fR h x0 2309) = 102 ∧ vp_in ((fI h x0 2310) - 1) (ln h (fR h x0 2309)) ∧ vp_in ((fI h x0 2310) - 1) (ln h (fR h x0 2309)) ∧ (∀ h159 : xH, h159 = tD h (fR h x0 2309) (Int32.toNatClampNeg ((fI h x0 2310) - 1)) (FP.dneg (aD h (fR h x0 2309) (Int32.toNatClampNeg ((fI h x0 2310) - 1)))) → bX9_works_429 G fr lo h159 Q)) ∧ (x1 = 31 → tg h (fR h x0 2307) = 101 ∧ vp_in ((fI h x0 2310) - 1) (ln h (fR h x0 2307)) ∧ tg h (fR h x0 2309) = 102 ∧ vp_in ((fI h x0 2310) - 1) (ln h (fR h x0 2309)) ∧ (∀ h166 : xH, h166 = tD h (fR h x0 2309) (Int32.toNatClampNeg ((fI h x0 2310) - 1)) (FP.l2d (aJ h (fR h x0 2307) (Int32.toNatClampNeg ((fI h x0 2310) - 1)))) → bX9_works_429 G fr lo h166 Q)) ∧ (x1 = 32 → tg h (fR h x0 2307) = 101 ∧ vp_in ((fI h x0 2310) - 2) (ln h (fR h x0 2307)) ∧ tg h (fR h x0 2309) = 102 ∧ vp_in ((fI h x0 2310) - 2) (ln h (fR h x0 2309)) ∧ (∀ h173 : xH, h173 = tD h (fR h x0 2309) (Int32.toNatClampNeg ((fI h x0 2310) - 2)) (FP.l2d (aJ h (fR h x0 2307) (Int32.toNatClampNeg ((fI h x0 2310) - 2)))) → bX9_works_429 G fr lo h173 Q)) ∧ (x1 = 33 → (∀ h176 : xH, h176 = sI h x0 2310 ((fI h x0 2310) - 1) → ((26 ≤ x1 → ((30 ≤ x1 → ((41 ≤ x1 → 1 ≤ fr ∧ 17 ≤ lo ∧ xRv G YX9_ofSets (fr - 1) (lo - 17) [rv x0, .int x1] h176 (fun h184 => xext h176 h184 → bX9_works_429 G fr lo h184 Q) (fun r h2 => Q (.threw r) h2)) ∧ (¬ 41 ≤ x1 → 1 ≤ fr ∧ 20 ≤ lo ∧ xRv G YX9_compares (fr - 1) (lo - 20) [rv x0, .int x1, .int x2] h176 (fun h190 => xext h176 h190 → bX9_works_429 G fr lo h190 Q) (fun r h2 => Q (.threw r) h2)))) ∧ (¬ 30 ≤ x1 → tg h176 (fR h176 x0 2309) = 102 ∧ vp_in ((fI h176 x0 2310) - 1) (ln h176 (fR h176 x0 2309)) ∧ vp_in (fI h176 x0 2310) (ln h176 (fR h176 x0 2309)) ∧ 1 ≤ fr ∧ 18 ≤ lo ∧ xRv G YX9_ofFractions (fr - 1) (lo - 18) [rv x0, .int x1, .double (aD h176 (fR h176 x0 2309) (Int32.toNatClampNeg ((fI h176 x0 2310) - 1))), .double (aD h176 (fR h176 x0 2309) (Int32.toNatClampNeg (fI h176 x0 2310))), .int (aI h (fR h (fR h x0 2304) 516) (Int32.toNatClampNeg x2))] h176 (fun h199 => xext h176 h199 → bX9_works_429 G fr lo h199 Q) (fun r h2 => Q (.threw r) h2)))) ∧ (¬ 26 ≤ x1 → tg h176 (fR h176 x0 2307) = 101 ∧ vp_in ((fI h176 x0 2310) - 1) (ln h176 (fR h176 x0 2307)) ∧ vp_in (fI h176 x0 2310) (ln h176 (fR h176 x0 2307)) ∧ 1 ≤ fr ∧ 18 ≤ lo ∧ xRv G YX9_ofWholes (fr - 1) (lo - 18) [rv x0, .int x1, .long (aJ h176 (fR h176 x0 2307) (Int32.toNatClampNeg ((fI h176 x0 2310) - 1))), .long (aJ h176 (fR h176 x0 2307) (Int32.toNatClampNeg (fI h176 x0 2310))), .int (aI h (fR h (fR h x0 2304) 516) (Int32.toNatClampNeg x2))] h176 (fun h208 => xext h176 h208 → bX9_works_429 G fr lo h208 Q) (fun r h2 => Q (.threw r) h2))))) ∧ (x1 = 34 → (∀ h212 : xH, h212 = sI h x0 2310 ((fI h x0 2310) - 1) → ((26 ≤ x1 → ((30 ≤ x1 → ((41 ≤ x1 → 1 ≤ fr ∧ 17 ≤ lo ∧ xRv G YX9_ofSets (fr - 1) (lo - 17) [rv x0, .int x1] h212 (fun h220 => xext h212 h220 → bX9_works_429 G fr lo h220 Q) (fun r h2 => Q (.threw r) h2)) ∧ (¬ 41 ≤ x1 → 1 ≤ fr ∧ 20 ≤ lo ∧ xRv G YX9_compares (fr - 1) (lo - 20) [rv x0, .int x1, .int x2] h212 (fun h226 => xext h212 h226 → bX9_works_429 G fr lo h226 Q) (fun r h2 => Q (.threw r) h2)))) ∧ (¬ 30 ≤ x1 → tg h212 (fR h212 x0 2309) = 102 ∧ vp_in ((fI h212 x0 2310) - 1) (ln h212 (fR h212 x0 2309)) ∧ vp_in (fI h212 x0 2310) (ln h212 (fR h212 x0 2309)) ∧ 1 ≤ fr ∧ 18 ≤ lo ∧ xRv G YX9_ofFractions (fr - 1) (lo - 18) [rv x0, .int x1, .double (aD h212 (fR h212 x0 2309) (Int32.toNatClampNeg ((fI h212 x0 2310) - 1))), .double (aD h212 (fR h212 x0 2309) (Int32.toNatClampNeg (fI h212 x0 2310))), .int (aI h (fR h (fR h x0 2304) 516) (Int32.toNatClampNeg x2))] h212 (fun h235 => xext h212 h235 → bX9_works_429 G fr lo h235 Q) (fun r h2 => Q (.threw r) h2)))) ∧ (¬ 26 ≤ x1 → tg h212 (fR h212 x0 2307) = 101 ∧ vp_in ((fI h212 x0 2310) - 1) (ln h212 (fR h212 x0 2307)) ∧ vp_in (fI h212 x0 2310) (ln h212 (fR h212 x0 2307)) ∧ 1 ≤ fr ∧ 18 ≤ lo ∧ xRv G YX9_ofWholes (fr - 1) (lo - 18) [rv x0, .int x1, .long (aJ h212 (fR h212 x0 2307) (Int32.toNatClampNeg ((fI h212 x0 2310) - 1))), .long (aJ h212 (fR h212 x0 2307) (Int32.toNatClampNeg (fI h212 x0 2310))), .int (aI h (fR h (fR h x0 2304) 516) (Int32.toNatClampNeg x2))] h212 (fun h244 => xext h212 h244 → bX9_works_429 G fr lo h244 Q) (fun r h2 => Q (.threw r) h2))))) ∧ (x1 = 35 → tg h (fR h x0 2307) = 101 ∧ vp_in ((fI h x0 2310) - 1) (ln h (fR h x0 2307)) ∧ vp_in ((fI h x0 2310) - 1) (ln h (fR h x0 2307)) ∧ (∀ h251 : xH, h251 = tJ h (fR h x0 2307) (Int32.toNatClampNeg ((fI h x0 2310) - 1)) (1 - (aJ h (fR h x0 2307) (Int32.toNatClampNeg ((fI h x0 2310) - 1)))) → bX9_works_429 G fr lo h251 Q)) ∧ (x1 = 36 → (∀ h254 : xH, h254 = sI h x0 2310 ((fI h x0 2310) - 1) → ((26 ≤ x1 → ((30 ≤ x1 → ((41 ≤ x1 → 1 ≤ fr ∧ 17 ≤ lo ∧ xRv G YX9_ofSets (fr - 1) (lo - 17) [rv x0, .int x1] h254 (fun h262 => xext h254 h262 → bX9_works_429 G fr lo h262 Q) (fun r h2 => Q (.threw r) h2)) ∧ (¬ 41 ≤ x1 → 1 ≤ fr ∧ 20 ≤ lo ∧ xRv G YX9_compares (fr - 1) (lo - 20) [rv x0, .int x1, .int x2] h254 (fun h268 => xext h254 h268 → bX9_works_429 G fr lo h268 Q) (fun r h2 => Q (.threw r) h2)))) ∧ (¬ 30 ≤ x1 → tg h254 (fR h254 x0 2309) = 102 ∧ vp_in ((fI h254 x0 2310) - 1) (ln h254 (fR h254 x0 2309)) ∧ vp_in (fI h254 x0 2310) (ln h254 (fR h254 x0 2309)) ∧ 1 ≤ fr ∧ 18 ≤ lo ∧ xRv G YX9_ofFractions (fr - 1) (lo - 18) [rv x0, .int x1, .double (aD h254 (fR h254 x0 2309) (Int32.toNatClampNeg ((fI h254 x0 2310) - 1))), .double (aD h254 (fR h254 x0 2309) (Int32.toNatClampNeg (fI h254 x0 2310))), .int (aI h (fR h (fR h x0 2304) 516) (Int32.toNatClampNeg x2))] h254 (fun h277 => xext h254 h277 → bX9_works_429 G fr lo h277 Q) (fun r h2 => Q (.threw r) h2)))) ∧ (¬ 26 ≤ x1 → tg h254 (fR h254 x0 2307) = 101 ∧ vp_in ((fI h254 x0 2310) - 1) (ln h254 (fR h254 x0 2307)) ∧ vp_in (fI h254 x0 2310) (ln h254 (fR h254 x0 2307)) ∧ 1 ≤ fr ∧ 18 ≤ lo ∧ xRv G YX9_ofWholes (fr - 1) (lo - 18) [rv x0, .int x1, .long (aJ h254 (fR h254 x0 2307) (Int32.toNatClampNeg ((fI h254 x0 2310) - 1))), .long (aJ h254 (fR h254 x0 2307) (Int32.toNatClampNeg (fI h254 x0 2310))), .int (aI h (fR h (fR h x0 2304) 516) (Int32.toNatClampNeg x2))] h254 (fun h286 => xext h254 h286 → bX9_works_429 G fr lo h286 Q) (fun r h2 => Q (.threw r) h2))))) ∧ (x1 = 37 → (∀ h290 : xH, h290 = sI h x0 2310 ((fI h x0 2310) - 1) → ((26 ≤ x1 → ((30 ≤ x1 → ((41 ≤ x1 → 1 ≤ fr ∧ 17 ≤ lo ∧ xRv G YX9_ofSets (fr - 1) (lo - 17) [rv x0, .int x1] h290 (fun h298 => xext h290 h298 → bX9_works_429 G fr lo h298 Q) (fun r h2 => Q (.threw r) h2)) ∧ (¬ 41 ≤ x1 → 1 ≤ fr ∧ 20 ≤ lo ∧ xRv G YX9_compares (fr - 1) (lo - 20) [rv x0, .int x1, .int x2] h290 (fun h304 => xext h290 h304 → bX9_works_429 G fr lo h304 Q) (fun r h2 => Q (.threw r) h2)))) ∧ (¬ 30 ≤ x1 → tg h290 (fR h290 x0 2309) = 102 ∧ vp_in ((fI h290 x0 2310) - 1) (ln h290 (fR h290 x0 2309)) ∧ vp_in (fI h290 x0 2310) (ln h290 (fR h290 x0 2309)) ∧ 1 ≤ fr ∧ 18 ≤ lo ∧ xRv G YX9_ofFractions (fr - 1) (lo - 18) [rv x0, .int x1, .double (aD h290 (fR h290 x0 2309) (Int32.toNatClampNeg ((fI h290 x0 2310) - 1))), .double (aD h290 (fR h290 x0 2309) (Int32.toNatClampNeg (fI h290 x0 2310))), .int (aI h (fR h (fR h x0 2304) 516) (Int32.toNatClampNeg x2))] h290 (fun h313 => xext h290 h313 → bX9_works_429 G fr lo h313 Q) (fun r h2 => Q (.threw r) h2)))) ∧ (¬ 26 ≤ x1 → tg h290 (fR h290 x0 2307) = 101 ∧ vp_in ((fI h290 x0 2310) - 1) (ln h290 (fR h290 x0 2307)) ∧ vp_in (fI h290 x0 2310) (ln h290 (fR h290 x0 2307)) ∧ 1 ≤ fr ∧ 18 ≤ lo ∧ xRv G YX9_ofWholes (fr - 1) (lo - 18) [rv x0, .int x1, .long (aJ h290 (fR h290 x0 2307) (Int32.toNatClampNeg ((fI h290 x0 2310) - 1))), .long (aJ h290 (fR h290 x0 2307) (Int32.toNatClampNeg (fI h290 x0 2310))), .int (aI h (fR h (fR h x0 2304) 516) (Int32.toNatClampNeg x2))] h290 (fun h322 => xext h290 h322 → bX9_works_429 G fr lo h322 Q) (fun r h2 => Q (.threw r) h2))))) ∧ (x1 = 38 → (∀ h326 : xH, h326 = sI h x0 2310 ((fI h x0 2310) - 1) → ((26 ≤ x1 → ((30 ≤ x1 → ((41 ≤ x1 → 1 ≤ fr ∧ 17 ≤ lo ∧ xRv G YX9_ofSets (fr - 1) (lo - 17) [rv x0, .int x1] h326 (fun h334 => xext h326 h334 → bX9_works_429 G fr lo h334 Q) (fun r h2 => Q (.threw r) h2)) ∧ (¬ 41 ≤ x1 → 1 ≤ fr ∧ 20 ≤ lo ∧ xRv G YX9_compares (fr - 1) (lo - 20) [rv x0, .int x1, .int x2] h326 (fun h340 => xext h326 h340 → bX9_works_429 G fr lo h340 Q) (fun r h2 => Q (.threw r) h2)))) ∧ (¬ 30 ≤ x1 → tg h326 (fR h326 x0 2309) = 102 ∧ vp_in ((fI h326 x0 2310) - 1) (ln h326 (fR h326 x0 2309)) ∧ vp_in (fI h326 x0 2310) (ln h326 (fR h326 x0 2309)) ∧ 1 ≤ fr ∧ 18 ≤ lo ∧ xRv G YX9_ofFractions (fr - 1) (lo - 18) [rv x0, .int x1, .double (aD h326 (fR h326 x0 2309) (Int32.toNatClampNeg ((fI h326 x0 2310) - 1))), .double (aD h326 (fR h326 x0 2309) (Int32.toNatClampNeg (fI h326 x0 2310))), .int (aI h (fR h (fR h x0 2304) 516) (Int32.toNatClampNeg x2))] h326 (fun h349 => xext h326 h349 → bX9_works_429 G fr lo h349 Q) (fun r h2 => Q (.threw r) h2)))) ∧ (¬ 26 ≤ x1 → tg h326 (fR h326 x0 2307) = 101 ∧ vp_in ((fI h326 x0 2310) - 1) (ln h326 (fR h326 x0 2307)) ∧ vp_in (fI h326 x0 2310) (ln h326 (fR h326 x0 2307)) ∧ 1 ≤ fr ∧ 18 ≤ lo ∧ xRv G YX9_ofWholes (fr - 1) (lo - 18) [rv x0, .int x1, .long (aJ h326 (fR h326 x0 2307) (Int32.toNatClampNeg ((fI h326 x0 2310) - 1))), .long (aJ h326 (fR h326 x0 2307) (Int32.toNatClampNeg (fI h326 x0 2310))), .int (aI h (fR h (fR h x0 2304) 516) (Int32.toNatClampNeg x2))] h326 (fun h358 => xext h326 h358 → bX9_works_429 G fr lo h358 Q) (fun r h2 => Q (.threw r) h2))))) ∧ (x1 = 39 → (∀ h362 : xH, h362 = sI h x0 2310 ((fI h x0 2310) - 1) → ((26 ≤ x1 → ((30 ≤ x1 → ((41 ≤ x1 → 1 ≤ fr ∧ 17 ≤ lo ∧ xRv G YX9_ofSets (fr - 1) (lo - 17) [rv x0, .int x1] h362 (fun h370 => xext h362 h370 → bX9_works_429 G fr lo h370 Q) (fun r h2 => Q (.threw r) h2)) ∧ (¬ 41 ≤ x1 → 1 ≤ fr ∧ 20 ≤ lo ∧ xRv G YX9_compares (fr - 1) (lo - 20) [rv x0, .int x1, .int x2] h362 (fun h376 => xext h362 h376 → bX9_works_429 G fr lo h376 Q) (fun r h2 => Q (.threw r) h2)))) ∧ (¬ 30 ≤ x1 → tg h362 (fR h362 x0 2309) = 102 ∧ vp_in ((fI h362 x0 2310) - 1) (ln h362 (fR h362 x0 2309)) ∧ vp_in (fI h362 x0 2310) (ln h362 (fR h362 x0 2309)) ∧ 1 ≤ fr ∧ 18 ≤ lo ∧ xRv G YX9_ofFractions (fr - 1) (lo - 18) [rv x0, .int x1, .double (aD h362 (fR h362 x0 2309) (Int32.toNatClampNeg ((fI h362 x0 2310) - 1))), .double (aD h362 (fR h362 x0 2309) (Int32.toNatClampNeg (fI h362 x0 2310))), .int (aI h (fR h (fR h x0 2304) 516) (Int32.toNatClampNeg x2))] h362 (fun h385 => xext h362 h385 → bX9_works_429 G fr lo h385 Q) (fun r h2 => Q (.threw r) h2)))) ∧ (¬ 26 ≤ x1 → tg h362 (fR h362 x0 2307) = 101 ∧ vp_in ((fI h362 x0 2310) - 1) (ln h362 (fR h362 x0 2307)) ∧ vp_in (fI h362 x0 2310) (ln h362 (fR h362 x0 2307)) ∧ 1 ≤ fr ∧ 18 ≤ lo ∧ xRv G YX9_ofWholes (fr - 1) (lo - 18) [rv x0, .int x1, .long (aJ h362 (fR h362 x0 2307) (Int32.toNatClampNeg ((fI h362 x0 2310) - 1))), .long (aJ h362 (fR h362 x0 2307) (Int32.toNatClampNeg (fI h362 x0 2310))), .int (aI h (fR h (fR h x0 2304) 516) (Int32.toNatClampNeg x2))] h362 (fun h394 => xext h362 h394 → bX9_works_429 G fr lo h394 Q) (fun r h2 => Q (.threw r) h2))))) ∧ (x1 = 40 → (∀ h398 : xH, h398 = sI h x0 2310 ((fI h x0 2310) - 1) → ((26 ≤ x1 → ((30 ≤ x1 → ((41 ≤ x1 → 1 ≤ fr ∧ 17 ≤ lo ∧ xRv G YX9_ofSets (fr - 1) (lo - 17) [rv x0, .int x1] h398 (fun h406 => xext h398 h406 → bX9_works_429 G fr lo h406 Q) (fun r h2 => Q (.threw r) h2)) ∧ (¬ 41 ≤ x1 → 1 ≤ fr ∧ 20 ≤ lo ∧ xRv G YX9_compares (fr - 1) (lo - 20) [rv x0, .int x1, .int x2] h398 (fun h412 => xext h398 h412 → bX9_works_429 G fr lo h412 Q) (fun r h2 => Q (.threw r) h2)))) ∧ (¬ 30 ≤ x1 → tg h398 (fR h398 x0 2309) = 102 ∧ vp_in ((fI h398 x0 2310) - 1) (ln h398 (fR h398 x0 2309)) ∧ vp_in (fI h398 x0 2310) (ln h398 (fR h398 x0 2309)) ∧ 1 ≤ fr ∧ 18 ≤ lo ∧ xRv G YX9_ofFractions (fr - 1) (lo - 18) [rv x0, .int x1, .double (aD h398 (fR h398 x0 2309) (Int32.toNatClampNeg ((fI h398 x0 2310) - 1))), .double (aD h398 (fR h398 x0 2309) (Int32.toNatClampNeg (fI h398 x0 2310))), .int (aI h (fR h (fR h x0 2304) 516) (Int32.toNatClampNeg x2))] h398 (fun h421 => xext h398 h421 → bX9_works_429 G fr lo h421 Q) (fun r h2 => Q (.threw r) h2)))) ∧ (¬ 26 ≤ x1 → tg h398 (fR h398 x0 2307) = 101 ∧ vp_in ((fI h398 x0 2310) - 1) (ln h398 (fR h398 x0 2307)) ∧ vp_in (fI h398 x0 2310) (ln h398 (fR h398 x0 2307)) ∧ 1 ≤ fr ∧ 18 ≤ lo ∧ xRv G YX9_ofWholes (fr - 1) (lo - 18) [rv x0, .int x1, .long (aJ h398 (fR h398 x0 2307) (Int32.toNatClampNeg ((fI h398 x0 2310) - 1))), .long (aJ h398 (fR h398 x0 2307) (Int32.toNatClampNeg (fI h398 x0 2310))), .int (aI h (fR h (fR h x0 2304) 516) (Int32.toNatClampNeg x2))] h398 (fun h430 => xext h398 h430 → bX9_works_429 G fr lo h430 Q) (fun r h2 => Q (.threw r) h2))))) ∧ (x1 = 41 → (∀ h434 : xH, h434 = sI h x0 2310 ((fI h x0 2310) - 1) → ((26 ≤ x1 → ((30 ≤ x1 → ((41 ≤ x1 → 1 ≤ fr ∧ 17 ≤ lo ∧ xRv G YX9_ofSets (fr - 1) (lo - 17) [rv x0, .int x1] h434 (fun h442 => xext h434 h442 → bX9_works_429 G fr lo h442 Q) (fun r h2 => Q (.threw r) h2)) ∧ (¬ 41 ≤ x1 → 1 ≤ fr ∧ 20 ≤ lo ∧ xRv G YX9_compares (fr - 1) (lo - 20) [rv x0, .int x1, .int x2] h434 (fun h448 => xext h434 h448 → bX9_works_429 G fr lo h448 Q) (fun r h2 => Q (.threw r) h2)))) ∧ (¬ 30 ≤ x1 → tg h434 (fR h434 x0 2309) = 102 ∧ vp_in ((fI h434 x0 2310) - 1) (ln h434 (fR h434 x0 2309)) ∧ vp_in (fI h434 x0 2310) (ln h434 (fR h434 x0 2309)) ∧ 1 ≤ fr ∧ 18 ≤ lo ∧ xRv G YX9_ofFractions (fr - 1) (lo - 18) [rv x0, .int x1, .double (aD h434 (fR h434 x0 2309) (Int32.toNatClampNeg ((fI h434 x0 2310) - 1))), .double (aD h434 (fR h434 x0 2309) (Int32.toNatClampNeg (fI h434 x0 2310))), .int (aI h (fR h (fR h x0 2304) 516) (Int32.toNatClampNeg x2))] h434 (fun h457 => xext h434 h457 → bX9_works_429 G fr lo h457 Q) (fun r h2 => Q (.threw r) h2)))) ∧ (¬ 26 ≤ x1 → tg h434 (fR h434 x0 2307) = 101 ∧ vp_in ((fI h434 x0 2310) - 1) (ln h434 (fR h434 x0 2307)) ∧ vp_in (fI h434 x0 2310) (ln h434 (fR h434 x0 2307)) ∧ 1 ≤ fr ∧ 18 ≤ lo ∧ xRv G YX9_ofWholes (fr - 1) (lo - 18) [rv x0, .int x1, .long (aJ h434 (fR h434 x0 2307) (Int32.toNatClampNeg ((fI h434 x0 2310) - 1))), .long (aJ h434 (fR h434 x0 2307) (Int32.toNatClampNeg (fI h434 x0 2310))), .int (aI h (fR h (fR h x0 2304) 516) (Int32.toNatClampNeg x2))] h434 (fun h466 => xext h434 h466 → bX9_works_429 G fr lo h466 Q) (fun r h2 => Q (.threw r) h2))))) ∧ (x1 = 42 → 1 ≤ fr ∧ 14 ≤ lo ∧ xRv G YX9_push (fr - 1) (lo - 14) [rv x0, .long 0] h (fun h472 => xext h h472 → tg h472 (fR h472 x0 2308) = 101 ∧ vp_in ((fI h472 x0 2310) - 1) (ln h472 (fR h472 x0 2308)) ∧ (∀ h478 : xH, h478 = tJ h472 (fR h472 x0 2308) (Int32.toNatClampNeg ((fI h472 x0 2310) - 1)) 0 → bX9_works_429 G fr lo h478 Q)) (fun r h2 => Q (.threw r) h2)) ∧ (x1 = 43 → (∀ h481 : xH, h481 = sI h x0 2310 ((fI h x0 2310) - 1) → tg h481 (fR h481 x0 2307) = 101 ∧ vp_in (fI h481 x0 2310) (ln h481 (fR h481 x0 2307)) ∧ (((lg_cmp (aJ h481 (fR h481 x0 2307) (Int32.toNatClampNeg (fI h481 x0 2310))) 0) < 0 → bX9_works_303 G fr lo x0 (aI h (fR h (fR h x0 2304) 516) (Int32.toNatClampNeg x2)) h481 Q) ∧ (¬ (lg_cmp (aJ h481 (fR h481 x0 2307) (Int32.toNatClampNeg (fI h481 x0 2310))) 0) < 0 → vp_in (fI h481 x0 2310) (ln h481 (fR h481 x0 2307)) ∧ (((lg_cmp (aJ h481 (fR h481 x0 2307) (Int32.toNatClampNeg (fI h481 x0 2310))) 127) ≤ 0 → vp_in (fI h481 x0 2310) (ln h481 (fR h481 x0 2307)) ∧ 1 ≤ fr ∧ 13 ≤ lo ∧ xRv G YX9_puts (fr - 1) (lo - 13) [rv x0, .int (Int64.toInt32 (aJ h481 (fR h481 x0 2307) (Int32.toNatClampNeg (fI h481 x0 2310))))] h481 (fun h492 => xext h481 h492 → bX9_works_429 G fr lo h492 Q) (fun r h2 => Q (.threw r) h2)) ∧ (¬ (lg_cmp (aJ h481 (fR h481 x0 2307) (Int32.toNatClampNeg (fI h481 x0 2310))) 127) ≤ 0 → bX9_works_303 G fr lo x0 (aI h (fR h (fR h x0 2304) 516) (Int32.toNatClampNeg x2)) h481 Q)))))) ∧ (x1 = 44 → 1 ≤ fr ∧ 18 ≤ lo ∧ xRv G YX9_spans (fr - 1) (lo - 18) [rv x0, .int (aI h (fR h (fR h x0 2304) 516) (Int32.toNatClampNeg x2))] h (fun h498 => xext h h498 → bX9_works_429 G fr lo h498 Q) (fun r h2 => Q (.threw r) h2)) ∧ (¬ x1 = 25 → ¬ x1 = 26 → ¬ x1 = 27 → ¬ x1 = 28 → ¬ x1 = 29 → ¬ x1 = 30 → ¬ x1 = 31 → ¬ x1 = 32 → ¬ x1 = 33 → ¬ x1 = 34 → ¬ x1 = 35 → ¬ x1 = 36 → ¬ x1 = 37 → ¬ x1 = 38 → ¬ x1 = 39 → ¬ x1 = 40 → ¬ x1 = 41 → ¬ x1 = 42 → ¬ x1 = 43 → ¬ x1 = 44 → (∀ h501 : xH, h501 = sI h x0 2310 ((fI h x0 2310) - 1) → ((26 ≤ x1 → ((30 ≤ x1 → ((41 ≤ x1 → 1 ≤ fr ∧ 17 ≤ lo ∧ xRv G YX9_ofSets (fr - 1) (lo - 17) [rv x0, .int x1] h501 (fun h509 => xext h501 h509 → bX9_works_429 G fr lo h509 Q) (fun r h2 => Q (.threw r) h2)) ∧ (¬ 41 ≤ x1 → 1 ≤ fr ∧ 20 ≤ lo ∧ xRv G YX9_compares (fr - 1) (lo - 20) [rv x0, .int x1, .int x2] h501 (fun h515 => xext h501 h515 → bX9_works_429 G fr lo h515 Q) (fun r h2 => Q (.threw r) h2)))) ∧ (¬ 30 ≤ x1 → tg h501 (fR h501 x0 2309) = 102 ∧ vp_in ((fI h501 x0 2310) - 1) (ln h501 (fR h501 x0 2309)) ∧ vp_in (fI h501 x0 2310) (ln h501 (fR h501 x0 2309)) ∧ 1 ≤ fr ∧ 18 ≤ lo ∧ xRv G YX9_ofFractions (fr - 1) (lo - 18) [rv x0, .int x1, .double (aD h501 (fR h501 x0 2309) (Int32.toNatClampNeg ((fI h501 x0 2310) - 1))), .double (aD h501 (fR h501 x0 2309) (Int32.toNatClampNeg (fI h501 x0 2310))), .int (aI h (fR h (fR h x0 2304) 516) (Int32.toNatClampNeg x2))] h501 (fun h524 => xext h501 h524 → bX9_works_429 G fr lo h524 Q) (fun r h2 => Q (.threw r) h2)))) ∧ (¬ 26 ≤ x1 → tg h501 (fR h501 x0 2307) = 101 ∧ vp_in ((fI h501 x0 2310) - 1) (ln h501 (fR h501 x0 2307)) ∧ vp_in (fI h501 x0 2310) (ln h501 (fR h501 x0 2307)) ∧ 1 ≤ fr ∧ 18 ≤ lo ∧ xRv G YX9_ofWholes (fr - 1) (lo - 18) [rv x0, .int x1, .long (aJ h501 (fR h501 x0 2307) (Int32.toNatClampNeg ((fI h501 x0 2310) - 1))), .long (aJ h501 (fR h501 x0 2307) (Int32.toNatClampNeg (fI h501 x0 2310))), .int (aI h (fR h (fR h x0 2304) 516) (Int32.toNatClampNeg x2))] h501 (fun h533 => xext h501 h533 → bX9_works_429 G fr lo h533 Q) (fun r h2 => Q (.threw r) h2))))))
set_option maxRecDepth 100000 in
theorem uX9_works {G : xG} {fr lo : Nat} {x0 : Nat} {x1 : Int32} {x2 : Int32} {h : xH} {Q : Outcome → xH → Prop} (hq : bX9_works G fr lo x0 x1 x2 h Q) : xP G YX9_works fr lo 0 [(0, rv x0), (1, .int x1), (2, .int x2)] [] h Q := by
  unfold bX9_works at hq
  refine x_aload_n 0 dX9_works_0 rfl ?_
  obtain ⟨g1, hq⟩ := hq
  refine x_get (v := rv (fR h x0 2304)) fdX9_75 dX9_works_1 g1 rfl ?_
  obtain ⟨g2, hq⟩ := hq
  refine x_getN (v := rv (fR h (fR h x0 2304) 516)) gfX9_222 dX9_works_4 g2 rfl ?_
  refine x_iload_n 2 dX9_works_7 rfl ?_
  obtain ⟨g3, hq⟩ := hq
  obtain ⟨i4, hq⟩ := hq
  refine x_iald 0 (Or.inl rfl) g3 i4 dX9_works_8 ?_
  refine x_istore_n (lv' := [(3, .int (aI h (fR h (fR h x0 2304) 516) (Int32.toNatClampNeg x2))), (0, rv x0), (1, .int x1), (2, .int x2)]) dX9_works_9 (by decide) rfl ?_
  refine x_iload_n 2 dX9_works_10 rfl ?_
  by_cases c5 : x1 = 25
  · replace hq := hq.1 c5
    refine x_tin (tgt := 104) (off := 93) 25 c5 dX9_works_11 (by decide) (by decide) (by decide) (by decide) ?_
    refine x_aload_n 1 dX9_works_104 rfl ?_
    refine x_get (v := rv (fR h x0 2307)) fdX9_28 dX9_works_105 g1 rfl ?_
    refine x_aload_n 1 dX9_works_108 rfl ?_
    refine x_get (v := .int (fI h x0 2310)) fdX9_86 dX9_works_109 g1 rfl ?_
    refine x_iconst (v := 1) dX9_works_112 (by decide) ?_
    refine x_isub dX9_works_113 ?_
    refine x_aload_n 1 dX9_works_114 rfl ?_
    refine x_get (v := rv (fR h x0 2307)) fdX9_28 dX9_works_115 g1 rfl ?_
    refine x_aload_n 1 dX9_works_118 rfl ?_
    refine x_get (v := .int (fI h x0 2310)) fdX9_86 dX9_works_119 g1 rfl ?_
    refine x_iconst (v := 1) dX9_works_122 (by decide) ?_
    refine x_isub dX9_works_123 ?_
    obtain ⟨g6, hq⟩ := hq
    obtain ⟨i7, hq⟩ := hq
    refine x_lald g6 i7 dX9_works_124 ?_
    refine x_lneg dX9_works_125 ?_
    obtain ⟨i8, hq⟩ := hq
    obtain ⟨h9, e10⟩ : ∃ y, y = tJ h (fR h x0 2307) (Int32.toNatClampNeg ((fI h x0 2310) - 1)) (-(aJ h (fR h x0 2307) (Int32.toNatClampNeg ((fI h x0 2310) - 1)))) := ⟨_, rfl⟩
    replace hq := hq h9 e10
    refine x_last' g6 i8 dX9_works_126 e10 ?_
    refine x_goto (tgt := 429) dX9_works_127 (by decide) ?_
    refine xP.pick (lv' := []) [] rfl ?_
    exact uX9_works_429 hq
  replace hq := hq.2
  by_cases c11 : x1 = 26
  · replace hq := hq.1 c11
    refine x_tin (tgt := 329) (off := 318) 26 c11 dX9_works_11 (by decide) (by decide) (by decide) (by decide) ?_
    refine x_aload_n 1 dX9_works_329 rfl ?_
    refine x_dup dX9_works_330 (rv_cat _) ?_
    refine x_get (v := .int (fI h x0 2310)) fdX9_86 dX9_works_331 g1 rfl ?_
    refine x_iconst (v := 1) dX9_works_334 (by decide) ?_
    refine x_isub dX9_works_335 ?_
    obtain ⟨h12, e13⟩ : ∃ y, y = sI h x0 2310 ((fI h x0 2310) - 1) := ⟨_, rfl⟩
    replace hq := hq h12 e13
    refine x_putI fdX9_86 xty_I1 dX9_works_336 g1 (Or.inl (by rw [g1]; rfl)) xnI rfl e13 ?_
    refine x_iload_n 2 dX9_works_339 rfl ?_
    refine x_bipush (v := 26) dX9_works_340 (by decide) ?_
    refine x_icmp_ge (tgt := 374) dX9_works_342 (by decide) (fun c14 => ?_) (fun c14 => ?_)
    · replace hq := hq.1 c14
      refine x_iload_n 2 dX9_works_374 rfl ?_
      refine x_bipush (v := 30) dX9_works_375 (by decide) ?_
      refine x_icmp_ge (tgt := 409) dX9_works_377 (by decide) (fun c15 => ?_) (fun c15 => ?_)
      · replace hq := hq.1 c15
        refine x_iload_n 2 dX9_works_409 rfl ?_
        refine x_bipush (v := 41) dX9_works_410 (by decide) ?_
        refine x_icmp_ge (tgt := 424) dX9_works_412 (by decide) (fun c16 => ?_) (fun c16 => ?_)
        · replace hq := hq.1 c16
          refine x_aload_n 1 dX9_works_424 rfl ?_
          refine x_iload_n 2 dX9_works_425 rfl ?_
          have t17 : tg h12 x0 = 10 := by rw [e13]; exact g1
          obtain ⟨g18, g19, hq⟩ := hq
          refine x_callV (Yc := YX9_ofSets) (as := [.int x1]) (st := []) q2965 mvX9_ofSets t17 rfl dX9_works_426 (xle (xal1 (rv_cat _) (xal1 rfl xal0)) (by decide)) (xfr g18) (xlo xsw0 (by decide) g19) (xKv hq (fun h20 hq e22 => ?_) (fun _ _ q _ => q))
          replace hq := hq e22
          refine xP.pick (lv' := []) [] rfl ?_
          exact uX9_works_429 hq
        · replace hq := hq.2 c16
          refine x_aload_n 1 dX9_works_415 rfl ?_
          refine x_iload_n 2 dX9_works_416 rfl ?_
          refine x_iload_n 3 dX9_works_417 rfl ?_
          have t23 : tg h12 x0 = 10 := by rw [e13]; exact g1
          obtain ⟨g24, g25, hq⟩ := hq
          refine x_callV (Yc := YX9_compares) (as := [.int x1, .int x2]) (st := []) q2961 mvX9_compares t23 rfl dX9_works_418 (xle (xal1 (rv_cat _) (xal1 rfl (xal1 rfl xal0))) (by decide)) (xfr g24) (xlo xsw0 (by decide) g25) (xKv hq (fun h26 hq e28 => ?_) (fun _ _ q _ => q))
          replace hq := hq e28
          refine x_goto (tgt := 429) dX9_works_421 (by decide) ?_
          refine xP.pick (lv' := []) [] rfl ?_
          exact uX9_works_429 hq
      · replace hq := hq.2 c15
        refine x_aload_n 1 dX9_works_380 rfl ?_
        refine x_iload_n 2 dX9_works_381 rfl ?_
        refine x_aload_n 1 dX9_works_382 rfl ?_
        have t29 : tg h12 x0 = 10 := by rw [e13]; exact g1
        refine x_get (v := rv (fR h12 x0 2309)) fdX9_35 dX9_works_383 t29 rfl ?_
        refine x_aload_n 1 dX9_works_386 rfl ?_
        refine x_get (v := .int (fI h12 x0 2310)) fdX9_86 dX9_works_387 t29 rfl ?_
        refine x_iconst (v := 1) dX9_works_390 (by decide) ?_
        refine x_isub dX9_works_391 ?_
        obtain ⟨g30, hq⟩ := hq
        obtain ⟨i31, hq⟩ := hq
        refine x_dald g30 i31 dX9_works_392 ?_
        refine x_aload_n 1 dX9_works_393 rfl ?_
        refine x_get (v := rv (fR h12 x0 2309)) fdX9_35 dX9_works_394 t29 rfl ?_
        refine x_aload_n 1 dX9_works_397 rfl ?_
        refine x_get (v := .int (fI h12 x0 2310)) fdX9_86 dX9_works_398 t29 rfl ?_
        obtain ⟨i32, hq⟩ := hq
        refine x_dald g30 i32 dX9_works_401 ?_
        refine x_iload_n 0 dX9_works_402 rfl ?_
        obtain ⟨g33, g34, hq⟩ := hq
        refine x_callV (Yc := YX9_ofFractions) (as := [.int x1, .double (aD h12 (fR h12 x0 2309) (Int32.toNatClampNeg ((fI h12 x0 2310) - 1))), .double (aD h12 (fR h12 x0 2309) (Int32.toNatClampNeg (fI h12 x0 2310))), .int (aI h (fR h (fR h x0 2304) 516) (Int32.toNatClampNeg x2))]) (st := []) q2952 mvX9_ofFractions t29 rfl dX9_works_403 (xle (xal1 (rv_cat _) (xal1 rfl (xal2 rfl (xal2 rfl (xal1 rfl xal0))))) (by decide)) (xfr g33) (xlo xsw0 (by decide) g34) (xKv hq (fun h35 hq e37 => ?_) (fun _ _ q _ => q))
        replace hq := hq e37
        refine x_goto (tgt := 429) dX9_works_406 (by decide) ?_
        refine xP.pick (lv' := []) [] rfl ?_
        exact uX9_works_429 hq
    · replace hq := hq.2 c14
      refine x_aload_n 1 dX9_works_345 rfl ?_
      refine x_iload_n 2 dX9_works_346 rfl ?_
      refine x_aload_n 1 dX9_works_347 rfl ?_
      have t38 : tg h12 x0 = 10 := by rw [e13]; exact g1
      refine x_get (v := rv (fR h12 x0 2307)) fdX9_28 dX9_works_348 t38 rfl ?_
      refine x_aload_n 1 dX9_works_351 rfl ?_
      refine x_get (v := .int (fI h12 x0 2310)) fdX9_86 dX9_works_352 t38 rfl ?_
      refine x_iconst (v := 1) dX9_works_355 (by decide) ?_
      refine x_isub dX9_works_356 ?_
      obtain ⟨g39, hq⟩ := hq
      obtain ⟨i40, hq⟩ := hq
      refine x_lald g39 i40 dX9_works_357 ?_
      refine x_aload_n 1 dX9_works_358 rfl ?_
      refine x_get (v := rv (fR h12 x0 2307)) fdX9_28 dX9_works_359 t38 rfl ?_
      refine x_aload_n 1 dX9_works_362 rfl ?_
      refine x_get (v := .int (fI h12 x0 2310)) fdX9_86 dX9_works_363 t38 rfl ?_
      obtain ⟨i41, hq⟩ := hq
      refine x_lald g39 i41 dX9_works_366 ?_
      refine x_iload_n 0 dX9_works_367 rfl ?_
      obtain ⟨g42, g43, hq⟩ := hq
      refine x_callV (Yc := YX9_ofWholes) (as := [.int x1, .long (aJ h12 (fR h12 x0 2307) (Int32.toNatClampNeg ((fI h12 x0 2310) - 1))), .long (aJ h12 (fR h12 x0 2307) (Int32.toNatClampNeg (fI h12 x0 2310))), .int (aI h (fR h (fR h x0 2304) 516) (Int32.toNatClampNeg x2))]) (st := []) q2942 mvX9_ofWholes t38 rfl dX9_works_368 (xle (xal1 (rv_cat _) (xal1 rfl (xal2 rfl (xal2 rfl (xal1 rfl xal0))))) (by decide)) (xfr g42) (xlo xsw0 (by decide) g43) (xKv hq (fun h44 hq e46 => ?_) (fun _ _ q _ => q))
      replace hq := hq e46
      refine x_goto (tgt := 429) dX9_works_371 (by decide) ?_
      refine xP.pick (lv' := []) [] rfl ?_
      exact uX9_works_429 hq
  replace hq := hq.2
  by_cases c47 : x1 = 27
  · replace hq := hq.1 c47
    refine x_tin (tgt := 329) (off := 318) 27 c47 dX9_works_11 (by decide) (by decide) (by decide) (by decide) ?_
    refine x_aload_n 1 dX9_works_329 rfl ?_
    refine x_dup dX9_works_330 (rv_cat _) ?_
    refine x_get (v := .int (fI h x0 2310)) fdX9_86 dX9_works_331 g1 rfl ?_
    refine x_iconst (v := 1) dX9_works_334 (by decide) ?_
    refine x_isub dX9_works_335 ?_
    obtain ⟨h48, e49⟩ : ∃ y, y = sI h x0 2310 ((fI h x0 2310) - 1) := ⟨_, rfl⟩
    replace hq := hq h48 e49
    refine x_putI fdX9_86 xty_I1 dX9_works_336 g1 (Or.inl (by rw [g1]; rfl)) xnI rfl e49 ?_
    refine x_iload_n 2 dX9_works_339 rfl ?_
    refine x_bipush (v := 26) dX9_works_340 (by decide) ?_
    refine x_icmp_ge (tgt := 374) dX9_works_342 (by decide) (fun c50 => ?_) (fun c50 => ?_)
    · replace hq := hq.1 c50
      refine x_iload_n 2 dX9_works_374 rfl ?_
      refine x_bipush (v := 30) dX9_works_375 (by decide) ?_
      refine x_icmp_ge (tgt := 409) dX9_works_377 (by decide) (fun c51 => ?_) (fun c51 => ?_)
      · replace hq := hq.1 c51
        refine x_iload_n 2 dX9_works_409 rfl ?_
        refine x_bipush (v := 41) dX9_works_410 (by decide) ?_
        refine x_icmp_ge (tgt := 424) dX9_works_412 (by decide) (fun c52 => ?_) (fun c52 => ?_)
        · replace hq := hq.1 c52
          refine x_aload_n 1 dX9_works_424 rfl ?_
          refine x_iload_n 2 dX9_works_425 rfl ?_
          have t53 : tg h48 x0 = 10 := by rw [e49]; exact g1
          obtain ⟨g54, g55, hq⟩ := hq
          refine x_callV (Yc := YX9_ofSets) (as := [.int x1]) (st := []) q2965 mvX9_ofSets t53 rfl dX9_works_426 (xle (xal1 (rv_cat _) (xal1 rfl xal0)) (by decide)) (xfr g54) (xlo xsw0 (by decide) g55) (xKv hq (fun h56 hq e58 => ?_) (fun _ _ q _ => q))
          replace hq := hq e58
          refine xP.pick (lv' := []) [] rfl ?_
          exact uX9_works_429 hq
        · replace hq := hq.2 c52
          refine x_aload_n 1 dX9_works_415 rfl ?_
          refine x_iload_n 2 dX9_works_416 rfl ?_
          refine x_iload_n 3 dX9_works_417 rfl ?_
          have t59 : tg h48 x0 = 10 := by rw [e49]; exact g1
          obtain ⟨g60, g61, hq⟩ := hq
          refine x_callV (Yc := YX9_compares) (as := [.int x1, .int x2]) (st := []) q2961 mvX9_compares t59 rfl dX9_works_418 (xle (xal1 (rv_cat _) (xal1 rfl (xal1 rfl xal0))) (by decide)) (xfr g60) (xlo xsw0 (by decide) g61) (xKv hq (fun h62 hq e64 => ?_) (fun _ _ q _ => q))
          replace hq := hq e64
          refine x_goto (tgt := 429) dX9_works_421 (by decide) ?_
          refine xP.pick (lv' := []) [] rfl ?_
          exact uX9_works_429 hq
      · replace hq := hq.2 c51
        refine x_aload_n 1 dX9_works_380 rfl ?_
        refine x_iload_n 2 dX9_works_381 rfl ?_
        refine x_aload_n 1 dX9_works_382 rfl ?_
        have t65 : tg h48 x0 = 10 := by rw [e49]; exact g1
        refine x_get (v := rv (fR h48 x0 2309)) fdX9_35 dX9_works_383 t65 rfl ?_
        refine x_aload_n 1 dX9_works_386 rfl ?_
        refine x_get (v := .int (fI h48 x0 2310)) fdX9_86 dX9_works_387 t65 rfl ?_
        refine x_iconst (v := 1) dX9_works_390 (by decide) ?_
        refine x_isub dX9_works_391 ?_
        obtain ⟨g66, hq⟩ := hq
        obtain ⟨i67, hq⟩ := hq
        refine x_dald g66 i67 dX9_works_392 ?_
        refine x_aload_n 1 dX9_works_393 rfl ?_
        refine x_get (v := rv (fR h48 x0 2309)) fdX9_35 dX9_works_394 t65 rfl ?_
        refine x_aload_n 1 dX9_works_397 rfl ?_
        refine x_get (v := .int (fI h48 x0 2310)) fdX9_86 dX9_works_398 t65 rfl ?_
        obtain ⟨i68, hq⟩ := hq
        refine x_dald g66 i68 dX9_works_401 ?_
        refine x_iload_n 0 dX9_works_402 rfl ?_
        obtain ⟨g69, g70, hq⟩ := hq
        refine x_callV (Yc := YX9_ofFractions) (as := [.int x1, .double (aD h48 (fR h48 x0 2309) (Int32.toNatClampNeg ((fI h48 x0 2310) - 1))), .double (aD h48 (fR h48 x0 2309) (Int32.toNatClampNeg (fI h48 x0 2310))), .int (aI h (fR h (fR h x0 2304) 516) (Int32.toNatClampNeg x2))]) (st := []) q2952 mvX9_ofFractions t65 rfl dX9_works_403 (xle (xal1 (rv_cat _) (xal1 rfl (xal2 rfl (xal2 rfl (xal1 rfl xal0))))) (by decide)) (xfr g69) (xlo xsw0 (by decide) g70) (xKv hq (fun h71 hq e73 => ?_) (fun _ _ q _ => q))
        replace hq := hq e73
        refine x_goto (tgt := 429) dX9_works_406 (by decide) ?_
        refine xP.pick (lv' := []) [] rfl ?_
        exact uX9_works_429 hq
    · replace hq := hq.2 c50
      refine x_aload_n 1 dX9_works_345 rfl ?_
      refine x_iload_n 2 dX9_works_346 rfl ?_
      refine x_aload_n 1 dX9_works_347 rfl ?_
      have t74 : tg h48 x0 = 10 := by rw [e49]; exact g1
      refine x_get (v := rv (fR h48 x0 2307)) fdX9_28 dX9_works_348 t74 rfl ?_
      refine x_aload_n 1 dX9_works_351 rfl ?_
      refine x_get (v := .int (fI h48 x0 2310)) fdX9_86 dX9_works_352 t74 rfl ?_
      refine x_iconst (v := 1) dX9_works_355 (by decide) ?_
      refine x_isub dX9_works_356 ?_
      obtain ⟨g75, hq⟩ := hq
      obtain ⟨i76, hq⟩ := hq
      refine x_lald g75 i76 dX9_works_357 ?_
      refine x_aload_n 1 dX9_works_358 rfl ?_
      refine x_get (v := rv (fR h48 x0 2307)) fdX9_28 dX9_works_359 t74 rfl ?_
      refine x_aload_n 1 dX9_works_362 rfl ?_
      refine x_get (v := .int (fI h48 x0 2310)) fdX9_86 dX9_works_363 t74 rfl ?_
      obtain ⟨i77, hq⟩ := hq
      refine x_lald g75 i77 dX9_works_366 ?_
      refine x_iload_n 0 dX9_works_367 rfl ?_
      obtain ⟨g78, g79, hq⟩ := hq
      refine x_callV (Yc := YX9_ofWholes) (as := [.int x1, .long (aJ h48 (fR h48 x0 2307) (Int32.toNatClampNeg ((fI h48 x0 2310) - 1))), .long (aJ h48 (fR h48 x0 2307) (Int32.toNatClampNeg (fI h48 x0 2310))), .int (aI h (fR h (fR h x0 2304) 516) (Int32.toNatClampNeg x2))]) (st := []) q2942 mvX9_ofWholes t74 rfl dX9_works_368 (xle (xal1 (rv_cat _) (xal1 rfl (xal2 rfl (xal2 rfl (xal1 rfl xal0))))) (by decide)) (xfr g78) (xlo xsw0 (by decide) g79) (xKv hq (fun h80 hq e82 => ?_) (fun _ _ q _ => q))
      replace hq := hq e82
      refine x_goto (tgt := 429) dX9_works_371 (by decide) ?_
      refine xP.pick (lv' := []) [] rfl ?_
      exact uX9_works_429 hq
  replace hq := hq.2
  by_cases c83 : x1 = 28
  · replace hq := hq.1 c83
    refine x_tin (tgt := 329) (off := 318) 28 c83 dX9_works_11 (by decide) (by decide) (by decide) (by decide) ?_
    refine x_aload_n 1 dX9_works_329 rfl ?_
    refine x_dup dX9_works_330 (rv_cat _) ?_
    refine x_get (v := .int (fI h x0 2310)) fdX9_86 dX9_works_331 g1 rfl ?_
    refine x_iconst (v := 1) dX9_works_334 (by decide) ?_
    refine x_isub dX9_works_335 ?_
    obtain ⟨h84, e85⟩ : ∃ y, y = sI h x0 2310 ((fI h x0 2310) - 1) := ⟨_, rfl⟩
    replace hq := hq h84 e85
    refine x_putI fdX9_86 xty_I1 dX9_works_336 g1 (Or.inl (by rw [g1]; rfl)) xnI rfl e85 ?_
    refine x_iload_n 2 dX9_works_339 rfl ?_
    refine x_bipush (v := 26) dX9_works_340 (by decide) ?_
    refine x_icmp_ge (tgt := 374) dX9_works_342 (by decide) (fun c86 => ?_) (fun c86 => ?_)
    · replace hq := hq.1 c86
      refine x_iload_n 2 dX9_works_374 rfl ?_
      refine x_bipush (v := 30) dX9_works_375 (by decide) ?_
      refine x_icmp_ge (tgt := 409) dX9_works_377 (by decide) (fun c87 => ?_) (fun c87 => ?_)
      · replace hq := hq.1 c87
        refine x_iload_n 2 dX9_works_409 rfl ?_
        refine x_bipush (v := 41) dX9_works_410 (by decide) ?_
        refine x_icmp_ge (tgt := 424) dX9_works_412 (by decide) (fun c88 => ?_) (fun c88 => ?_)
        · replace hq := hq.1 c88
          refine x_aload_n 1 dX9_works_424 rfl ?_
          refine x_iload_n 2 dX9_works_425 rfl ?_
          have t89 : tg h84 x0 = 10 := by rw [e85]; exact g1
          obtain ⟨g90, g91, hq⟩ := hq
          refine x_callV (Yc := YX9_ofSets) (as := [.int x1]) (st := []) q2965 mvX9_ofSets t89 rfl dX9_works_426 (xle (xal1 (rv_cat _) (xal1 rfl xal0)) (by decide)) (xfr g90) (xlo xsw0 (by decide) g91) (xKv hq (fun h92 hq e94 => ?_) (fun _ _ q _ => q))
          replace hq := hq e94
          refine xP.pick (lv' := []) [] rfl ?_
          exact uX9_works_429 hq
        · replace hq := hq.2 c88
          refine x_aload_n 1 dX9_works_415 rfl ?_
          refine x_iload_n 2 dX9_works_416 rfl ?_
          refine x_iload_n 3 dX9_works_417 rfl ?_
          have t95 : tg h84 x0 = 10 := by rw [e85]; exact g1
          obtain ⟨g96, g97, hq⟩ := hq
          refine x_callV (Yc := YX9_compares) (as := [.int x1, .int x2]) (st := []) q2961 mvX9_compares t95 rfl dX9_works_418 (xle (xal1 (rv_cat _) (xal1 rfl (xal1 rfl xal0))) (by decide)) (xfr g96) (xlo xsw0 (by decide) g97) (xKv hq (fun h98 hq e100 => ?_) (fun _ _ q _ => q))
          replace hq := hq e100
          refine x_goto (tgt := 429) dX9_works_421 (by decide) ?_
          refine xP.pick (lv' := []) [] rfl ?_
          exact uX9_works_429 hq
      · replace hq := hq.2 c87
        refine x_aload_n 1 dX9_works_380 rfl ?_
        refine x_iload_n 2 dX9_works_381 rfl ?_
        refine x_aload_n 1 dX9_works_382 rfl ?_
        have t101 : tg h84 x0 = 10 := by rw [e85]; exact g1
        refine x_get (v := rv (fR h84 x0 2309)) fdX9_35 dX9_works_383 t101 rfl ?_
        refine x_aload_n 1 dX9_works_386 rfl ?_
        refine x_get (v := .int (fI h84 x0 2310)) fdX9_86 dX9_works_387 t101 rfl ?_
        refine x_iconst (v := 1) dX9_works_390 (by decide) ?_
        refine x_isub dX9_works_391 ?_
        obtain ⟨g102, hq⟩ := hq
        obtain ⟨i103, hq⟩ := hq
        refine x_dald g102 i103 dX9_works_392 ?_
        refine x_aload_n 1 dX9_works_393 rfl ?_
        refine x_get (v := rv (fR h84 x0 2309)) fdX9_35 dX9_works_394 t101 rfl ?_
        refine x_aload_n 1 dX9_works_397 rfl ?_
        refine x_get (v := .int (fI h84 x0 2310)) fdX9_86 dX9_works_398 t101 rfl ?_
        obtain ⟨i104, hq⟩ := hq
        refine x_dald g102 i104 dX9_works_401 ?_
        refine x_iload_n 0 dX9_works_402 rfl ?_
        obtain ⟨g105, g106, hq⟩ := hq
        refine x_callV (Yc := YX9_ofFractions) (as := [.int x1, .double (aD h84 (fR h84 x0 2309) (Int32.toNatClampNeg ((fI h84 x0 2310) - 1))), .double (aD h84 (fR h84 x0 2309) (Int32.toNatClampNeg (fI h84 x0 2310))), .int (aI h (fR h (fR h x0 2304) 516) (Int32.toNatClampNeg x2))]) (st := []) q2952 mvX9_ofFractions t101 rfl dX9_works_403 (xle (xal1 (rv_cat _) (xal1 rfl (xal2 rfl (xal2 rfl (xal1 rfl xal0))))) (by decide)) (xfr g105) (xlo xsw0 (by decide) g106) (xKv hq (fun h107 hq e109 => ?_) (fun _ _ q _ => q))
        replace hq := hq e109
        refine x_goto (tgt := 429) dX9_works_406 (by decide) ?_
        refine xP.pick (lv' := []) [] rfl ?_
        exact uX9_works_429 hq
    · replace hq := hq.2 c86
      refine x_aload_n 1 dX9_works_345 rfl ?_
      refine x_iload_n 2 dX9_works_346 rfl ?_
      refine x_aload_n 1 dX9_works_347 rfl ?_
      have t110 : tg h84 x0 = 10 := by rw [e85]; exact g1
      refine x_get (v := rv (fR h84 x0 2307)) fdX9_28 dX9_works_348 t110 rfl ?_
      refine x_aload_n 1 dX9_works_351 rfl ?_
      refine x_get (v := .int (fI h84 x0 2310)) fdX9_86 dX9_works_352 t110 rfl ?_
      refine x_iconst (v := 1) dX9_works_355 (by decide) ?_
      refine x_isub dX9_works_356 ?_
      obtain ⟨g111, hq⟩ := hq
      obtain ⟨i112, hq⟩ := hq
      refine x_lald g111 i112 dX9_works_357 ?_
      refine x_aload_n 1 dX9_works_358 rfl ?_
      refine x_get (v := rv (fR h84 x0 2307)) fdX9_28 dX9_works_359 t110 rfl ?_
      refine x_aload_n 1 dX9_works_362 rfl ?_
      refine x_get (v := .int (fI h84 x0 2310)) fdX9_86 dX9_works_363 t110 rfl ?_
      obtain ⟨i113, hq⟩ := hq
      refine x_lald g111 i113 dX9_works_366 ?_
      refine x_iload_n 0 dX9_works_367 rfl ?_
      obtain ⟨g114, g115, hq⟩ := hq
      refine x_callV (Yc := YX9_ofWholes) (as := [.int x1, .long (aJ h84 (fR h84 x0 2307) (Int32.toNatClampNeg ((fI h84 x0 2310) - 1))), .long (aJ h84 (fR h84 x0 2307) (Int32.toNatClampNeg (fI h84 x0 2310))), .int (aI h (fR h (fR h x0 2304) 516) (Int32.toNatClampNeg x2))]) (st := []) q2942 mvX9_ofWholes t110 rfl dX9_works_368 (xle (xal1 (rv_cat _) (xal1 rfl (xal2 rfl (xal2 rfl (xal1 rfl xal0))))) (by decide)) (xfr g114) (xlo xsw0 (by decide) g115) (xKv hq (fun h116 hq e118 => ?_) (fun _ _ q _ => q))
      replace hq := hq e118
      refine x_goto (tgt := 429) dX9_works_371 (by decide) ?_
      refine xP.pick (lv' := []) [] rfl ?_
      exact uX9_works_429 hq
  replace hq := hq.2
  by_cases c119 : x1 = 29
  · replace hq := hq.1 c119
    refine x_tin (tgt := 329) (off := 318) 29 c119 dX9_works_11 (by decide) (by decide) (by decide) (by decide) ?_
    refine x_aload_n 1 dX9_works_329 rfl ?_
    refine x_dup dX9_works_330 (rv_cat _) ?_
    refine x_get (v := .int (fI h x0 2310)) fdX9_86 dX9_works_331 g1 rfl ?_
    refine x_iconst (v := 1) dX9_works_334 (by decide) ?_
    refine x_isub dX9_works_335 ?_
    obtain ⟨h120, e121⟩ : ∃ y, y = sI h x0 2310 ((fI h x0 2310) - 1) := ⟨_, rfl⟩
    replace hq := hq h120 e121
    refine x_putI fdX9_86 xty_I1 dX9_works_336 g1 (Or.inl (by rw [g1]; rfl)) xnI rfl e121 ?_
    refine x_iload_n 2 dX9_works_339 rfl ?_
    refine x_bipush (v := 26) dX9_works_340 (by decide) ?_
    refine x_icmp_ge (tgt := 374) dX9_works_342 (by decide) (fun c122 => ?_) (fun c122 => ?_)
    · replace hq := hq.1 c122
      refine x_iload_n 2 dX9_works_374 rfl ?_
      refine x_bipush (v := 30) dX9_works_375 (by decide) ?_
      refine x_icmp_ge (tgt := 409) dX9_works_377 (by decide) (fun c123 => ?_) (fun c123 => ?_)
      · replace hq := hq.1 c123
        refine x_iload_n 2 dX9_works_409 rfl ?_
        refine x_bipush (v := 41) dX9_works_410 (by decide) ?_
        refine x_icmp_ge (tgt := 424) dX9_works_412 (by decide) (fun c124 => ?_) (fun c124 => ?_)
        · replace hq := hq.1 c124
          refine x_aload_n 1 dX9_works_424 rfl ?_
          refine x_iload_n 2 dX9_works_425 rfl ?_
          have t125 : tg h120 x0 = 10 := by rw [e121]; exact g1
          obtain ⟨g126, g127, hq⟩ := hq
          refine x_callV (Yc := YX9_ofSets) (as := [.int x1]) (st := []) q2965 mvX9_ofSets t125 rfl dX9_works_426 (xle (xal1 (rv_cat _) (xal1 rfl xal0)) (by decide)) (xfr g126) (xlo xsw0 (by decide) g127) (xKv hq (fun h128 hq e130 => ?_) (fun _ _ q _ => q))
          replace hq := hq e130
          refine xP.pick (lv' := []) [] rfl ?_
          exact uX9_works_429 hq
        · replace hq := hq.2 c124
          refine x_aload_n 1 dX9_works_415 rfl ?_
          refine x_iload_n 2 dX9_works_416 rfl ?_
          refine x_iload_n 3 dX9_works_417 rfl ?_
          have t131 : tg h120 x0 = 10 := by rw [e121]; exact g1
          obtain ⟨g132, g133, hq⟩ := hq
          refine x_callV (Yc := YX9_compares) (as := [.int x1, .int x2]) (st := []) q2961 mvX9_compares t131 rfl dX9_works_418 (xle (xal1 (rv_cat _) (xal1 rfl (xal1 rfl xal0))) (by decide)) (xfr g132) (xlo xsw0 (by decide) g133) (xKv hq (fun h134 hq e136 => ?_) (fun _ _ q _ => q))
          replace hq := hq e136
          refine x_goto (tgt := 429) dX9_works_421 (by decide) ?_
          refine xP.pick (lv' := []) [] rfl ?_
          exact uX9_works_429 hq
      · replace hq := hq.2 c123
        refine x_aload_n 1 dX9_works_380 rfl ?_
        refine x_iload_n 2 dX9_works_381 rfl ?_
        refine x_aload_n 1 dX9_works_382 rfl ?_
        have t137 : tg h120 x0 = 10 := by rw [e121]; exact g1
        refine x_get (v := rv (fR h120 x0 2309)) fdX9_35 dX9_works_383 t137 rfl ?_
        refine x_aload_n 1 dX9_works_386 rfl ?_
        refine x_get (v := .int (fI h120 x0 2310)) fdX9_86 dX9_works_387 t137 rfl ?_
        refine x_iconst (v := 1) dX9_works_390 (by decide) ?_
        refine x_isub dX9_works_391 ?_
        obtain ⟨g138, hq⟩ := hq
        obtain ⟨i139, hq⟩ := hq
        refine x_dald g138 i139 dX9_works_392 ?_
        refine x_aload_n 1 dX9_works_393 rfl ?_
        refine x_get (v := rv (fR h120 x0 2309)) fdX9_35 dX9_works_394 t137 rfl ?_
        refine x_aload_n 1 dX9_works_397 rfl ?_
        refine x_get (v := .int (fI h120 x0 2310)) fdX9_86 dX9_works_398 t137 rfl ?_
        obtain ⟨i140, hq⟩ := hq
        refine x_dald g138 i140 dX9_works_401 ?_
        refine x_iload_n 0 dX9_works_402 rfl ?_
        obtain ⟨g141, g142, hq⟩ := hq
        refine x_callV (Yc := YX9_ofFractions) (as := [.int x1, .double (aD h120 (fR h120 x0 2309) (Int32.toNatClampNeg ((fI h120 x0 2310) - 1))), .double (aD h120 (fR h120 x0 2309) (Int32.toNatClampNeg (fI h120 x0 2310))), .int (aI h (fR h (fR h x0 2304) 516) (Int32.toNatClampNeg x2))]) (st := []) q2952 mvX9_ofFractions t137 rfl dX9_works_403 (xle (xal1 (rv_cat _) (xal1 rfl (xal2 rfl (xal2 rfl (xal1 rfl xal0))))) (by decide)) (xfr g141) (xlo xsw0 (by decide) g142) (xKv hq (fun h143 hq e145 => ?_) (fun _ _ q _ => q))
        replace hq := hq e145
        refine x_goto (tgt := 429) dX9_works_406 (by decide) ?_
        refine xP.pick (lv' := []) [] rfl ?_
        exact uX9_works_429 hq
    · replace hq := hq.2 c122
      refine x_aload_n 1 dX9_works_345 rfl ?_
      refine x_iload_n 2 dX9_works_346 rfl ?_
      refine x_aload_n 1 dX9_works_347 rfl ?_
      have t146 : tg h120 x0 = 10 := by rw [e121]; exact g1
      refine x_get (v := rv (fR h120 x0 2307)) fdX9_28 dX9_works_348 t146 rfl ?_
      refine x_aload_n 1 dX9_works_351 rfl ?_
      refine x_get (v := .int (fI h120 x0 2310)) fdX9_86 dX9_works_352 t146 rfl ?_
      refine x_iconst (v := 1) dX9_works_355 (by decide) ?_
      refine x_isub dX9_works_356 ?_
      obtain ⟨g147, hq⟩ := hq
      obtain ⟨i148, hq⟩ := hq
      refine x_lald g147 i148 dX9_works_357 ?_
      refine x_aload_n 1 dX9_works_358 rfl ?_
      refine x_get (v := rv (fR h120 x0 2307)) fdX9_28 dX9_works_359 t146 rfl ?_
      refine x_aload_n 1 dX9_works_362 rfl ?_
      refine x_get (v := .int (fI h120 x0 2310)) fdX9_86 dX9_works_363 t146 rfl ?_
      obtain ⟨i149, hq⟩ := hq
      refine x_lald g147 i149 dX9_works_366 ?_
      refine x_iload_n 0 dX9_works_367 rfl ?_
      obtain ⟨g150, g151, hq⟩ := hq
      refine x_callV (Yc := YX9_ofWholes) (as := [.int x1, .long (aJ h120 (fR h120 x0 2307) (Int32.toNatClampNeg ((fI h120 x0 2310) - 1))), .long (aJ h120 (fR h120 x0 2307) (Int32.toNatClampNeg (fI h120 x0 2310))), .int (aI h (fR h (fR h x0 2304) 516) (Int32.toNatClampNeg x2))]) (st := []) q2942 mvX9_ofWholes t146 rfl dX9_works_368 (xle (xal1 (rv_cat _) (xal1 rfl (xal2 rfl (xal2 rfl (xal1 rfl xal0))))) (by decide)) (xfr g150) (xlo xsw0 (by decide) g151) (xKv hq (fun h152 hq e154 => ?_) (fun _ _ q _ => q))
      replace hq := hq e154
      refine x_goto (tgt := 429) dX9_works_371 (by decide) ?_
      refine xP.pick (lv' := []) [] rfl ?_
      exact uX9_works_429 hq
  replace hq := hq.2
  by_cases c155 : x1 = 30
  · replace hq := hq.1 c155
    refine x_tin (tgt := 130) (off := 119) 30 c155 dX9_works_11 (by decide) (by decide) (by decide) (by decide) ?_
    refine x_aload_n 1 dX9_works_130 rfl ?_
    refine x_get (v := rv (fR h x0 2309)) fdX9_35 dX9_works_131 g1 rfl ?_
    refine x_aload_n 1 dX9_works_134 rfl ?_
    refine x_get (v := .int (fI h x0 2310)) fdX9_86 dX9_works_135 g1 rfl ?_
    refine x_iconst (v := 1) dX9_works_138 (by decide) ?_
    refine x_isub dX9_works_139 ?_
    refine x_aload_n 1 dX9_works_140 rfl ?_
    refine x_get (v := rv (fR h x0 2309)) fdX9_35 dX9_works_141 g1 rfl ?_
    refine x_aload_n 1 dX9_works_144 rfl ?_
    refine x_get (v := .int (fI h x0 2310)) fdX9_86 dX9_works_145 g1 rfl ?_
    refine x_iconst (v := 1) dX9_works_148 (by decide) ?_
    refine x_isub dX9_works_149 ?_
    obtain ⟨g156, hq⟩ := hq
    obtain ⟨i157, hq⟩ := hq
    refine x_dald g156 i157 dX9_works_150 ?_
    refine x_dneg dX9_works_151 ?_
    obtain ⟨i158, hq⟩ := hq
    obtain ⟨h159, e160⟩ : ∃ y, y = tD h (fR h x0 2309) (Int32.toNatClampNeg ((fI h x0 2310) - 1)) (FP.dneg (aD h (fR h x0 2309) (Int32.toNatClampNeg ((fI h x0 2310) - 1)))) := ⟨_, rfl⟩
    replace hq := hq h159 e160
    refine x_dast' g156 i158 dX9_works_152 e160 ?_
    refine x_goto (tgt := 429) dX9_works_153 (by decide) ?_
    refine xP.pick (lv' := []) [] rfl ?_
    exact uX9_works_429 hq
  replace hq := hq.2
  by_cases c161 : x1 = 31
  · replace hq := hq.1 c161
    refine x_tin (tgt := 156) (off := 145) 31 c161 dX9_works_11 (by decide) (by decide) (by decide) (by decide) ?_
    refine x_aload_n 1 dX9_works_156 rfl ?_
    refine x_get (v := rv (fR h x0 2309)) fdX9_35 dX9_works_157 g1 rfl ?_
    refine x_aload_n 1 dX9_works_160 rfl ?_
    refine x_get (v := .int (fI h x0 2310)) fdX9_86 dX9_works_161 g1 rfl ?_
    refine x_iconst (v := 1) dX9_works_164 (by decide) ?_
    refine x_isub dX9_works_165 ?_
    refine x_aload_n 1 dX9_works_166 rfl ?_
    refine x_get (v := rv (fR h x0 2307)) fdX9_28 dX9_works_167 g1 rfl ?_
    refine x_aload_n 1 dX9_works_170 rfl ?_
    refine x_get (v := .int (fI h x0 2310)) fdX9_86 dX9_works_171 g1 rfl ?_
    refine x_iconst (v := 1) dX9_works_174 (by decide) ?_
    refine x_isub dX9_works_175 ?_
    obtain ⟨g162, hq⟩ := hq
    obtain ⟨i163, hq⟩ := hq
    refine x_lald g162 i163 dX9_works_176 ?_
    refine x_l2d dX9_works_177 ?_
    obtain ⟨g164, hq⟩ := hq
    obtain ⟨i165, hq⟩ := hq
    obtain ⟨h166, e167⟩ : ∃ y, y = tD h (fR h x0 2309) (Int32.toNatClampNeg ((fI h x0 2310) - 1)) (FP.l2d (aJ h (fR h x0 2307) (Int32.toNatClampNeg ((fI h x0 2310) - 1)))) := ⟨_, rfl⟩
    replace hq := hq h166 e167
    refine x_dast' g164 i165 dX9_works_178 e167 ?_
    refine x_goto (tgt := 429) dX9_works_179 (by decide) ?_
    refine xP.pick (lv' := []) [] rfl ?_
    exact uX9_works_429 hq
  replace hq := hq.2
  by_cases c168 : x1 = 32
  · replace hq := hq.1 c168
    refine x_tin (tgt := 182) (off := 171) 32 c168 dX9_works_11 (by decide) (by decide) (by decide) (by decide) ?_
    refine x_aload_n 1 dX9_works_182 rfl ?_
    refine x_get (v := rv (fR h x0 2309)) fdX9_35 dX9_works_183 g1 rfl ?_
    refine x_aload_n 1 dX9_works_186 rfl ?_
    refine x_get (v := .int (fI h x0 2310)) fdX9_86 dX9_works_187 g1 rfl ?_
    refine x_iconst (v := 2) dX9_works_190 (by decide) ?_
    refine x_isub dX9_works_191 ?_
    refine x_aload_n 1 dX9_works_192 rfl ?_
    refine x_get (v := rv (fR h x0 2307)) fdX9_28 dX9_works_193 g1 rfl ?_
    refine x_aload_n 1 dX9_works_196 rfl ?_
    refine x_get (v := .int (fI h x0 2310)) fdX9_86 dX9_works_197 g1 rfl ?_
    refine x_iconst (v := 2) dX9_works_200 (by decide) ?_
    refine x_isub dX9_works_201 ?_
    obtain ⟨g169, hq⟩ := hq
    obtain ⟨i170, hq⟩ := hq
    refine x_lald g169 i170 dX9_works_202 ?_
    refine x_l2d dX9_works_203 ?_
    obtain ⟨g171, hq⟩ := hq
    obtain ⟨i172, hq⟩ := hq
    obtain ⟨h173, e174⟩ : ∃ y, y = tD h (fR h x0 2309) (Int32.toNatClampNeg ((fI h x0 2310) - 2)) (FP.l2d (aJ h (fR h x0 2307) (Int32.toNatClampNeg ((fI h x0 2310) - 2)))) := ⟨_, rfl⟩
    replace hq := hq h173 e174
    refine x_dast' g171 i172 dX9_works_204 e174 ?_
    refine x_goto (tgt := 429) dX9_works_205 (by decide) ?_
    refine xP.pick (lv' := []) [] rfl ?_
    exact uX9_works_429 hq
  replace hq := hq.2
  by_cases c175 : x1 = 33
  · replace hq := hq.1 c175
    refine x_tin (tgt := 329) (off := 318) 33 c175 dX9_works_11 (by decide) (by decide) (by decide) (by decide) ?_
    refine x_aload_n 1 dX9_works_329 rfl ?_
    refine x_dup dX9_works_330 (rv_cat _) ?_
    refine x_get (v := .int (fI h x0 2310)) fdX9_86 dX9_works_331 g1 rfl ?_
    refine x_iconst (v := 1) dX9_works_334 (by decide) ?_
    refine x_isub dX9_works_335 ?_
    obtain ⟨h176, e177⟩ : ∃ y, y = sI h x0 2310 ((fI h x0 2310) - 1) := ⟨_, rfl⟩
    replace hq := hq h176 e177
    refine x_putI fdX9_86 xty_I1 dX9_works_336 g1 (Or.inl (by rw [g1]; rfl)) xnI rfl e177 ?_
    refine x_iload_n 2 dX9_works_339 rfl ?_
    refine x_bipush (v := 26) dX9_works_340 (by decide) ?_
    refine x_icmp_ge (tgt := 374) dX9_works_342 (by decide) (fun c178 => ?_) (fun c178 => ?_)
    · replace hq := hq.1 c178
      refine x_iload_n 2 dX9_works_374 rfl ?_
      refine x_bipush (v := 30) dX9_works_375 (by decide) ?_
      refine x_icmp_ge (tgt := 409) dX9_works_377 (by decide) (fun c179 => ?_) (fun c179 => ?_)
      · replace hq := hq.1 c179
        refine x_iload_n 2 dX9_works_409 rfl ?_
        refine x_bipush (v := 41) dX9_works_410 (by decide) ?_
        refine x_icmp_ge (tgt := 424) dX9_works_412 (by decide) (fun c180 => ?_) (fun c180 => ?_)
        · replace hq := hq.1 c180
          refine x_aload_n 1 dX9_works_424 rfl ?_
          refine x_iload_n 2 dX9_works_425 rfl ?_
          have t181 : tg h176 x0 = 10 := by rw [e177]; exact g1
          obtain ⟨g182, g183, hq⟩ := hq
          refine x_callV (Yc := YX9_ofSets) (as := [.int x1]) (st := []) q2965 mvX9_ofSets t181 rfl dX9_works_426 (xle (xal1 (rv_cat _) (xal1 rfl xal0)) (by decide)) (xfr g182) (xlo xsw0 (by decide) g183) (xKv hq (fun h184 hq e186 => ?_) (fun _ _ q _ => q))
          replace hq := hq e186
          refine xP.pick (lv' := []) [] rfl ?_
          exact uX9_works_429 hq
        · replace hq := hq.2 c180
          refine x_aload_n 1 dX9_works_415 rfl ?_
          refine x_iload_n 2 dX9_works_416 rfl ?_
          refine x_iload_n 3 dX9_works_417 rfl ?_
          have t187 : tg h176 x0 = 10 := by rw [e177]; exact g1
          obtain ⟨g188, g189, hq⟩ := hq
          refine x_callV (Yc := YX9_compares) (as := [.int x1, .int x2]) (st := []) q2961 mvX9_compares t187 rfl dX9_works_418 (xle (xal1 (rv_cat _) (xal1 rfl (xal1 rfl xal0))) (by decide)) (xfr g188) (xlo xsw0 (by decide) g189) (xKv hq (fun h190 hq e192 => ?_) (fun _ _ q _ => q))
          replace hq := hq e192
          refine x_goto (tgt := 429) dX9_works_421 (by decide) ?_
          refine xP.pick (lv' := []) [] rfl ?_
          exact uX9_works_429 hq
      · replace hq := hq.2 c179
        refine x_aload_n 1 dX9_works_380 rfl ?_
        refine x_iload_n 2 dX9_works_381 rfl ?_
        refine x_aload_n 1 dX9_works_382 rfl ?_
        have t193 : tg h176 x0 = 10 := by rw [e177]; exact g1
        refine x_get (v := rv (fR h176 x0 2309)) fdX9_35 dX9_works_383 t193 rfl ?_
        refine x_aload_n 1 dX9_works_386 rfl ?_
        refine x_get (v := .int (fI h176 x0 2310)) fdX9_86 dX9_works_387 t193 rfl ?_
        refine x_iconst (v := 1) dX9_works_390 (by decide) ?_
        refine x_isub dX9_works_391 ?_
        obtain ⟨g194, hq⟩ := hq
        obtain ⟨i195, hq⟩ := hq
        refine x_dald g194 i195 dX9_works_392 ?_
        refine x_aload_n 1 dX9_works_393 rfl ?_
        refine x_get (v := rv (fR h176 x0 2309)) fdX9_35 dX9_works_394 t193 rfl ?_
        refine x_aload_n 1 dX9_works_397 rfl ?_
        refine x_get (v := .int (fI h176 x0 2310)) fdX9_86 dX9_works_398 t193 rfl ?_
        obtain ⟨i196, hq⟩ := hq
        refine x_dald g194 i196 dX9_works_401 ?_
        refine x_iload_n 0 dX9_works_402 rfl ?_
        obtain ⟨g197, g198, hq⟩ := hq
        refine x_callV (Yc := YX9_ofFractions) (as := [.int x1, .double (aD h176 (fR h176 x0 2309) (Int32.toNatClampNeg ((fI h176 x0 2310) - 1))), .double (aD h176 (fR h176 x0 2309) (Int32.toNatClampNeg (fI h176 x0 2310))), .int (aI h (fR h (fR h x0 2304) 516) (Int32.toNatClampNeg x2))]) (st := []) q2952 mvX9_ofFractions t193 rfl dX9_works_403 (xle (xal1 (rv_cat _) (xal1 rfl (xal2 rfl (xal2 rfl (xal1 rfl xal0))))) (by decide)) (xfr g197) (xlo xsw0 (by decide) g198) (xKv hq (fun h199 hq e201 => ?_) (fun _ _ q _ => q))
        replace hq := hq e201
        refine x_goto (tgt := 429) dX9_works_406 (by decide) ?_
        refine xP.pick (lv' := []) [] rfl ?_
        exact uX9_works_429 hq
    · replace hq := hq.2 c178
      refine x_aload_n 1 dX9_works_345 rfl ?_
      refine x_iload_n 2 dX9_works_346 rfl ?_
      refine x_aload_n 1 dX9_works_347 rfl ?_
      have t202 : tg h176 x0 = 10 := by rw [e177]; exact g1
      refine x_get (v := rv (fR h176 x0 2307)) fdX9_28 dX9_works_348 t202 rfl ?_
      refine x_aload_n 1 dX9_works_351 rfl ?_
      refine x_get (v := .int (fI h176 x0 2310)) fdX9_86 dX9_works_352 t202 rfl ?_
      refine x_iconst (v := 1) dX9_works_355 (by decide) ?_
      refine x_isub dX9_works_356 ?_
      obtain ⟨g203, hq⟩ := hq
      obtain ⟨i204, hq⟩ := hq
      refine x_lald g203 i204 dX9_works_357 ?_
      refine x_aload_n 1 dX9_works_358 rfl ?_
      refine x_get (v := rv (fR h176 x0 2307)) fdX9_28 dX9_works_359 t202 rfl ?_
      refine x_aload_n 1 dX9_works_362 rfl ?_
      refine x_get (v := .int (fI h176 x0 2310)) fdX9_86 dX9_works_363 t202 rfl ?_
      obtain ⟨i205, hq⟩ := hq
      refine x_lald g203 i205 dX9_works_366 ?_
      refine x_iload_n 0 dX9_works_367 rfl ?_
      obtain ⟨g206, g207, hq⟩ := hq
      refine x_callV (Yc := YX9_ofWholes) (as := [.int x1, .long (aJ h176 (fR h176 x0 2307) (Int32.toNatClampNeg ((fI h176 x0 2310) - 1))), .long (aJ h176 (fR h176 x0 2307) (Int32.toNatClampNeg (fI h176 x0 2310))), .int (aI h (fR h (fR h x0 2304) 516) (Int32.toNatClampNeg x2))]) (st := []) q2942 mvX9_ofWholes t202 rfl dX9_works_368 (xle (xal1 (rv_cat _) (xal1 rfl (xal2 rfl (xal2 rfl (xal1 rfl xal0))))) (by decide)) (xfr g206) (xlo xsw0 (by decide) g207) (xKv hq (fun h208 hq e210 => ?_) (fun _ _ q _ => q))
      replace hq := hq e210
      refine x_goto (tgt := 429) dX9_works_371 (by decide) ?_
      refine xP.pick (lv' := []) [] rfl ?_
      exact uX9_works_429 hq
  replace hq := hq.2
  by_cases c211 : x1 = 34
  · replace hq := hq.1 c211
    refine x_tin (tgt := 329) (off := 318) 34 c211 dX9_works_11 (by decide) (by decide) (by decide) (by decide) ?_
    refine x_aload_n 1 dX9_works_329 rfl ?_
    refine x_dup dX9_works_330 (rv_cat _) ?_
    refine x_get (v := .int (fI h x0 2310)) fdX9_86 dX9_works_331 g1 rfl ?_
    refine x_iconst (v := 1) dX9_works_334 (by decide) ?_
    refine x_isub dX9_works_335 ?_
    obtain ⟨h212, e213⟩ : ∃ y, y = sI h x0 2310 ((fI h x0 2310) - 1) := ⟨_, rfl⟩
    replace hq := hq h212 e213
    refine x_putI fdX9_86 xty_I1 dX9_works_336 g1 (Or.inl (by rw [g1]; rfl)) xnI rfl e213 ?_
    refine x_iload_n 2 dX9_works_339 rfl ?_
    refine x_bipush (v := 26) dX9_works_340 (by decide) ?_
    refine x_icmp_ge (tgt := 374) dX9_works_342 (by decide) (fun c214 => ?_) (fun c214 => ?_)
    · replace hq := hq.1 c214
      refine x_iload_n 2 dX9_works_374 rfl ?_
      refine x_bipush (v := 30) dX9_works_375 (by decide) ?_
      refine x_icmp_ge (tgt := 409) dX9_works_377 (by decide) (fun c215 => ?_) (fun c215 => ?_)
      · replace hq := hq.1 c215
        refine x_iload_n 2 dX9_works_409 rfl ?_
        refine x_bipush (v := 41) dX9_works_410 (by decide) ?_
        refine x_icmp_ge (tgt := 424) dX9_works_412 (by decide) (fun c216 => ?_) (fun c216 => ?_)
        · replace hq := hq.1 c216
          refine x_aload_n 1 dX9_works_424 rfl ?_
          refine x_iload_n 2 dX9_works_425 rfl ?_
          have t217 : tg h212 x0 = 10 := by rw [e213]; exact g1
          obtain ⟨g218, g219, hq⟩ := hq
          refine x_callV (Yc := YX9_ofSets) (as := [.int x1]) (st := []) q2965 mvX9_ofSets t217 rfl dX9_works_426 (xle (xal1 (rv_cat _) (xal1 rfl xal0)) (by decide)) (xfr g218) (xlo xsw0 (by decide) g219) (xKv hq (fun h220 hq e222 => ?_) (fun _ _ q _ => q))
          replace hq := hq e222
          refine xP.pick (lv' := []) [] rfl ?_
          exact uX9_works_429 hq
        · replace hq := hq.2 c216
          refine x_aload_n 1 dX9_works_415 rfl ?_
          refine x_iload_n 2 dX9_works_416 rfl ?_
          refine x_iload_n 3 dX9_works_417 rfl ?_
          have t223 : tg h212 x0 = 10 := by rw [e213]; exact g1
          obtain ⟨g224, g225, hq⟩ := hq
          refine x_callV (Yc := YX9_compares) (as := [.int x1, .int x2]) (st := []) q2961 mvX9_compares t223 rfl dX9_works_418 (xle (xal1 (rv_cat _) (xal1 rfl (xal1 rfl xal0))) (by decide)) (xfr g224) (xlo xsw0 (by decide) g225) (xKv hq (fun h226 hq e228 => ?_) (fun _ _ q _ => q))
          replace hq := hq e228
          refine x_goto (tgt := 429) dX9_works_421 (by decide) ?_
          refine xP.pick (lv' := []) [] rfl ?_
          exact uX9_works_429 hq
      · replace hq := hq.2 c215
        refine x_aload_n 1 dX9_works_380 rfl ?_
        refine x_iload_n 2 dX9_works_381 rfl ?_
        refine x_aload_n 1 dX9_works_382 rfl ?_
        have t229 : tg h212 x0 = 10 := by rw [e213]; exact g1
        refine x_get (v := rv (fR h212 x0 2309)) fdX9_35 dX9_works_383 t229 rfl ?_
        refine x_aload_n 1 dX9_works_386 rfl ?_
        refine x_get (v := .int (fI h212 x0 2310)) fdX9_86 dX9_works_387 t229 rfl ?_
        refine x_iconst (v := 1) dX9_works_390 (by decide) ?_
        refine x_isub dX9_works_391 ?_
        obtain ⟨g230, hq⟩ := hq
        obtain ⟨i231, hq⟩ := hq
        refine x_dald g230 i231 dX9_works_392 ?_
        refine x_aload_n 1 dX9_works_393 rfl ?_
        refine x_get (v := rv (fR h212 x0 2309)) fdX9_35 dX9_works_394 t229 rfl ?_
        refine x_aload_n 1 dX9_works_397 rfl ?_
        refine x_get (v := .int (fI h212 x0 2310)) fdX9_86 dX9_works_398 t229 rfl ?_
        obtain ⟨i232, hq⟩ := hq
        refine x_dald g230 i232 dX9_works_401 ?_
        refine x_iload_n 0 dX9_works_402 rfl ?_
        obtain ⟨g233, g234, hq⟩ := hq
        refine x_callV (Yc := YX9_ofFractions) (as := [.int x1, .double (aD h212 (fR h212 x0 2309) (Int32.toNatClampNeg ((fI h212 x0 2310) - 1))), .double (aD h212 (fR h212 x0 2309) (Int32.toNatClampNeg (fI h212 x0 2310))), .int (aI h (fR h (fR h x0 2304) 516) (Int32.toNatClampNeg x2))]) (st := []) q2952 mvX9_ofFractions t229 rfl dX9_works_403 (xle (xal1 (rv_cat _) (xal1 rfl (xal2 rfl (xal2 rfl (xal1 rfl xal0))))) (by decide)) (xfr g233) (xlo xsw0 (by decide) g234) (xKv hq (fun h235 hq e237 => ?_) (fun _ _ q _ => q))
        replace hq := hq e237
        refine x_goto (tgt := 429) dX9_works_406 (by decide) ?_
        refine xP.pick (lv' := []) [] rfl ?_
        exact uX9_works_429 hq
    · replace hq := hq.2 c214
      refine x_aload_n 1 dX9_works_345 rfl ?_
      refine x_iload_n 2 dX9_works_346 rfl ?_
      refine x_aload_n 1 dX9_works_347 rfl ?_
      have t238 : tg h212 x0 = 10 := by rw [e213]; exact g1
      refine x_get (v := rv (fR h212 x0 2307)) fdX9_28 dX9_works_348 t238 rfl ?_
      refine x_aload_n 1 dX9_works_351 rfl ?_
      refine x_get (v := .int (fI h212 x0 2310)) fdX9_86 dX9_works_352 t238 rfl ?_
      refine x_iconst (v := 1) dX9_works_355 (by decide) ?_
      refine x_isub dX9_works_356 ?_
      obtain ⟨g239, hq⟩ := hq
      obtain ⟨i240, hq⟩ := hq
      refine x_lald g239 i240 dX9_works_357 ?_
      refine x_aload_n 1 dX9_works_358 rfl ?_
      refine x_get (v := rv (fR h212 x0 2307)) fdX9_28 dX9_works_359 t238 rfl ?_
      refine x_aload_n 1 dX9_works_362 rfl ?_
      refine x_get (v := .int (fI h212 x0 2310)) fdX9_86 dX9_works_363 t238 rfl ?_
      obtain ⟨i241, hq⟩ := hq
      refine x_lald g239 i241 dX9_works_366 ?_
      refine x_iload_n 0 dX9_works_367 rfl ?_
      obtain ⟨g242, g243, hq⟩ := hq
      refine x_callV (Yc := YX9_ofWholes) (as := [.int x1, .long (aJ h212 (fR h212 x0 2307) (Int32.toNatClampNeg ((fI h212 x0 2310) - 1))), .long (aJ h212 (fR h212 x0 2307) (Int32.toNatClampNeg (fI h212 x0 2310))), .int (aI h (fR h (fR h x0 2304) 516) (Int32.toNatClampNeg x2))]) (st := []) q2942 mvX9_ofWholes t238 rfl dX9_works_368 (xle (xal1 (rv_cat _) (xal1 rfl (xal2 rfl (xal2 rfl (xal1 rfl xal0))))) (by decide)) (xfr g242) (xlo xsw0 (by decide) g243) (xKv hq (fun h244 hq e246 => ?_) (fun _ _ q _ => q))
      replace hq := hq e246
      refine x_goto (tgt := 429) dX9_works_371 (by decide) ?_
      refine xP.pick (lv' := []) [] rfl ?_
      exact uX9_works_429 hq
  replace hq := hq.2
  by_cases c247 : x1 = 35
  · replace hq := hq.1 c247
    refine x_tin (tgt := 208) (off := 197) 35 c247 dX9_works_11 (by decide) (by decide) (by decide) (by decide) ?_
    refine x_aload_n 1 dX9_works_208 rfl ?_
    refine x_get (v := rv (fR h x0 2307)) fdX9_28 dX9_works_209 g1 rfl ?_
    refine x_aload_n 1 dX9_works_212 rfl ?_
    refine x_get (v := .int (fI h x0 2310)) fdX9_86 dX9_works_213 g1 rfl ?_
    refine x_iconst (v := 1) dX9_works_216 (by decide) ?_
    refine x_isub dX9_works_217 ?_
    refine x_lconst (v := 1) dX9_works_218 (by decide) ?_
    refine x_aload_n 1 dX9_works_219 rfl ?_
    refine x_get (v := rv (fR h x0 2307)) fdX9_28 dX9_works_220 g1 rfl ?_
    refine x_aload_n 1 dX9_works_223 rfl ?_
    refine x_get (v := .int (fI h x0 2310)) fdX9_86 dX9_works_224 g1 rfl ?_
    refine x_iconst (v := 1) dX9_works_227 (by decide) ?_
    refine x_isub dX9_works_228 ?_
    obtain ⟨g248, hq⟩ := hq
    obtain ⟨i249, hq⟩ := hq
    refine x_lald g248 i249 dX9_works_229 ?_
    refine x_lsub dX9_works_230 ?_
    obtain ⟨i250, hq⟩ := hq
    obtain ⟨h251, e252⟩ : ∃ y, y = tJ h (fR h x0 2307) (Int32.toNatClampNeg ((fI h x0 2310) - 1)) (1 - (aJ h (fR h x0 2307) (Int32.toNatClampNeg ((fI h x0 2310) - 1)))) := ⟨_, rfl⟩
    replace hq := hq h251 e252
    refine x_last' g248 i250 dX9_works_231 e252 ?_
    refine x_goto (tgt := 429) dX9_works_232 (by decide) ?_
    refine xP.pick (lv' := []) [] rfl ?_
    exact uX9_works_429 hq
  replace hq := hq.2
  by_cases c253 : x1 = 36
  · replace hq := hq.1 c253
    refine x_tin (tgt := 329) (off := 318) 36 c253 dX9_works_11 (by decide) (by decide) (by decide) (by decide) ?_
    refine x_aload_n 1 dX9_works_329 rfl ?_
    refine x_dup dX9_works_330 (rv_cat _) ?_
    refine x_get (v := .int (fI h x0 2310)) fdX9_86 dX9_works_331 g1 rfl ?_
    refine x_iconst (v := 1) dX9_works_334 (by decide) ?_
    refine x_isub dX9_works_335 ?_
    obtain ⟨h254, e255⟩ : ∃ y, y = sI h x0 2310 ((fI h x0 2310) - 1) := ⟨_, rfl⟩
    replace hq := hq h254 e255
    refine x_putI fdX9_86 xty_I1 dX9_works_336 g1 (Or.inl (by rw [g1]; rfl)) xnI rfl e255 ?_
    refine x_iload_n 2 dX9_works_339 rfl ?_
    refine x_bipush (v := 26) dX9_works_340 (by decide) ?_
    refine x_icmp_ge (tgt := 374) dX9_works_342 (by decide) (fun c256 => ?_) (fun c256 => ?_)
    · replace hq := hq.1 c256
      refine x_iload_n 2 dX9_works_374 rfl ?_
      refine x_bipush (v := 30) dX9_works_375 (by decide) ?_
      refine x_icmp_ge (tgt := 409) dX9_works_377 (by decide) (fun c257 => ?_) (fun c257 => ?_)
      · replace hq := hq.1 c257
        refine x_iload_n 2 dX9_works_409 rfl ?_
        refine x_bipush (v := 41) dX9_works_410 (by decide) ?_
        refine x_icmp_ge (tgt := 424) dX9_works_412 (by decide) (fun c258 => ?_) (fun c258 => ?_)
        · replace hq := hq.1 c258
          refine x_aload_n 1 dX9_works_424 rfl ?_
          refine x_iload_n 2 dX9_works_425 rfl ?_
          have t259 : tg h254 x0 = 10 := by rw [e255]; exact g1
          obtain ⟨g260, g261, hq⟩ := hq
          refine x_callV (Yc := YX9_ofSets) (as := [.int x1]) (st := []) q2965 mvX9_ofSets t259 rfl dX9_works_426 (xle (xal1 (rv_cat _) (xal1 rfl xal0)) (by decide)) (xfr g260) (xlo xsw0 (by decide) g261) (xKv hq (fun h262 hq e264 => ?_) (fun _ _ q _ => q))
          replace hq := hq e264
          refine xP.pick (lv' := []) [] rfl ?_
          exact uX9_works_429 hq
        · replace hq := hq.2 c258
          refine x_aload_n 1 dX9_works_415 rfl ?_
          refine x_iload_n 2 dX9_works_416 rfl ?_
          refine x_iload_n 3 dX9_works_417 rfl ?_
          have t265 : tg h254 x0 = 10 := by rw [e255]; exact g1
          obtain ⟨g266, g267, hq⟩ := hq
          refine x_callV (Yc := YX9_compares) (as := [.int x1, .int x2]) (st := []) q2961 mvX9_compares t265 rfl dX9_works_418 (xle (xal1 (rv_cat _) (xal1 rfl (xal1 rfl xal0))) (by decide)) (xfr g266) (xlo xsw0 (by decide) g267) (xKv hq (fun h268 hq e270 => ?_) (fun _ _ q _ => q))
          replace hq := hq e270
          refine x_goto (tgt := 429) dX9_works_421 (by decide) ?_
          refine xP.pick (lv' := []) [] rfl ?_
          exact uX9_works_429 hq
      · replace hq := hq.2 c257
        refine x_aload_n 1 dX9_works_380 rfl ?_
        refine x_iload_n 2 dX9_works_381 rfl ?_
        refine x_aload_n 1 dX9_works_382 rfl ?_
        have t271 : tg h254 x0 = 10 := by rw [e255]; exact g1
        refine x_get (v := rv (fR h254 x0 2309)) fdX9_35 dX9_works_383 t271 rfl ?_
        refine x_aload_n 1 dX9_works_386 rfl ?_
        refine x_get (v := .int (fI h254 x0 2310)) fdX9_86 dX9_works_387 t271 rfl ?_
        refine x_iconst (v := 1) dX9_works_390 (by decide) ?_
        refine x_isub dX9_works_391 ?_
        obtain ⟨g272, hq⟩ := hq
        obtain ⟨i273, hq⟩ := hq
        refine x_dald g272 i273 dX9_works_392 ?_
        refine x_aload_n 1 dX9_works_393 rfl ?_
        refine x_get (v := rv (fR h254 x0 2309)) fdX9_35 dX9_works_394 t271 rfl ?_
        refine x_aload_n 1 dX9_works_397 rfl ?_
        refine x_get (v := .int (fI h254 x0 2310)) fdX9_86 dX9_works_398 t271 rfl ?_
        obtain ⟨i274, hq⟩ := hq
        refine x_dald g272 i274 dX9_works_401 ?_
        refine x_iload_n 0 dX9_works_402 rfl ?_
        obtain ⟨g275, g276, hq⟩ := hq
        refine x_callV (Yc := YX9_ofFractions) (as := [.int x1, .double (aD h254 (fR h254 x0 2309) (Int32.toNatClampNeg ((fI h254 x0 2310) - 1))), .double (aD h254 (fR h254 x0 2309) (Int32.toNatClampNeg (fI h254 x0 2310))), .int (aI h (fR h (fR h x0 2304) 516) (Int32.toNatClampNeg x2))]) (st := []) q2952 mvX9_ofFractions t271 rfl dX9_works_403 (xle (xal1 (rv_cat _) (xal1 rfl (xal2 rfl (xal2 rfl (xal1 rfl xal0))))) (by decide)) (xfr g275) (xlo xsw0 (by decide) g276) (xKv hq (fun h277 hq e279 => ?_) (fun _ _ q _ => q))
        replace hq := hq e279
        refine x_goto (tgt := 429) dX9_works_406 (by decide) ?_
        refine xP.pick (lv' := []) [] rfl ?_
        exact uX9_works_429 hq
    · replace hq := hq.2 c256
      refine x_aload_n 1 dX9_works_345 rfl ?_
      refine x_iload_n 2 dX9_works_346 rfl ?_
      refine x_aload_n 1 dX9_works_347 rfl ?_
      have t280 : tg h254 x0 = 10 := by rw [e255]; exact g1
      refine x_get (v := rv (fR h254 x0 2307)) fdX9_28 dX9_works_348 t280 rfl ?_
      refine x_aload_n 1 dX9_works_351 rfl ?_
      refine x_get (v := .int (fI h254 x0 2310)) fdX9_86 dX9_works_352 t280 rfl ?_
      refine x_iconst (v := 1) dX9_works_355 (by decide) ?_
      refine x_isub dX9_works_356 ?_
      obtain ⟨g281, hq⟩ := hq
      obtain ⟨i282, hq⟩ := hq
      refine x_lald g281 i282 dX9_works_357 ?_
      refine x_aload_n 1 dX9_works_358 rfl ?_
      refine x_get (v := rv (fR h254 x0 2307)) fdX9_28 dX9_works_359 t280 rfl ?_
      refine x_aload_n 1 dX9_works_362 rfl ?_
      refine x_get (v := .int (fI h254 x0 2310)) fdX9_86 dX9_works_363 t280 rfl ?_
      obtain ⟨i283, hq⟩ := hq
      refine x_lald g281 i283 dX9_works_366 ?_
      refine x_iload_n 0 dX9_works_367 rfl ?_
      obtain ⟨g284, g285, hq⟩ := hq
      refine x_callV (Yc := YX9_ofWholes) (as := [.int x1, .long (aJ h254 (fR h254 x0 2307) (Int32.toNatClampNeg ((fI h254 x0 2310) - 1))), .long (aJ h254 (fR h254 x0 2307) (Int32.toNatClampNeg (fI h254 x0 2310))), .int (aI h (fR h (fR h x0 2304) 516) (Int32.toNatClampNeg x2))]) (st := []) q2942 mvX9_ofWholes t280 rfl dX9_works_368 (xle (xal1 (rv_cat _) (xal1 rfl (xal2 rfl (xal2 rfl (xal1 rfl xal0))))) (by decide)) (xfr g284) (xlo xsw0 (by decide) g285) (xKv hq (fun h286 hq e288 => ?_) (fun _ _ q _ => q))
      replace hq := hq e288
      refine x_goto (tgt := 429) dX9_works_371 (by decide) ?_
      refine xP.pick (lv' := []) [] rfl ?_
      exact uX9_works_429 hq
  replace hq := hq.2
  by_cases c289 : x1 = 37
  · replace hq := hq.1 c289
    refine x_tin (tgt := 329) (off := 318) 37 c289 dX9_works_11 (by decide) (by decide) (by decide) (by decide) ?_
    refine x_aload_n 1 dX9_works_329 rfl ?_
    refine x_dup dX9_works_330 (rv_cat _) ?_
    refine x_get (v := .int (fI h x0 2310)) fdX9_86 dX9_works_331 g1 rfl ?_
    refine x_iconst (v := 1) dX9_works_334 (by decide) ?_
    refine x_isub dX9_works_335 ?_
    obtain ⟨h290, e291⟩ : ∃ y, y = sI h x0 2310 ((fI h x0 2310) - 1) := ⟨_, rfl⟩
    replace hq := hq h290 e291
    refine x_putI fdX9_86 xty_I1 dX9_works_336 g1 (Or.inl (by rw [g1]; rfl)) xnI rfl e291 ?_
    refine x_iload_n 2 dX9_works_339 rfl ?_
    refine x_bipush (v := 26) dX9_works_340 (by decide) ?_
    refine x_icmp_ge (tgt := 374) dX9_works_342 (by decide) (fun c292 => ?_) (fun c292 => ?_)
    · replace hq := hq.1 c292
      refine x_iload_n 2 dX9_works_374 rfl ?_
      refine x_bipush (v := 30) dX9_works_375 (by decide) ?_
      refine x_icmp_ge (tgt := 409) dX9_works_377 (by decide) (fun c293 => ?_) (fun c293 => ?_)
      · replace hq := hq.1 c293
        refine x_iload_n 2 dX9_works_409 rfl ?_
        refine x_bipush (v := 41) dX9_works_410 (by decide) ?_
        refine x_icmp_ge (tgt := 424) dX9_works_412 (by decide) (fun c294 => ?_) (fun c294 => ?_)
        · replace hq := hq.1 c294
          refine x_aload_n 1 dX9_works_424 rfl ?_
          refine x_iload_n 2 dX9_works_425 rfl ?_
          have t295 : tg h290 x0 = 10 := by rw [e291]; exact g1
          obtain ⟨g296, g297, hq⟩ := hq
          refine x_callV (Yc := YX9_ofSets) (as := [.int x1]) (st := []) q2965 mvX9_ofSets t295 rfl dX9_works_426 (xle (xal1 (rv_cat _) (xal1 rfl xal0)) (by decide)) (xfr g296) (xlo xsw0 (by decide) g297) (xKv hq (fun h298 hq e300 => ?_) (fun _ _ q _ => q))
          replace hq := hq e300
          refine xP.pick (lv' := []) [] rfl ?_
          exact uX9_works_429 hq
        · replace hq := hq.2 c294
          refine x_aload_n 1 dX9_works_415 rfl ?_
          refine x_iload_n 2 dX9_works_416 rfl ?_
          refine x_iload_n 3 dX9_works_417 rfl ?_
          have t301 : tg h290 x0 = 10 := by rw [e291]; exact g1
          obtain ⟨g302, g303, hq⟩ := hq
          refine x_callV (Yc := YX9_compares) (as := [.int x1, .int x2]) (st := []) q2961 mvX9_compares t301 rfl dX9_works_418 (xle (xal1 (rv_cat _) (xal1 rfl (xal1 rfl xal0))) (by decide)) (xfr g302) (xlo xsw0 (by decide) g303) (xKv hq (fun h304 hq e306 => ?_) (fun _ _ q _ => q))
          replace hq := hq e306
          refine x_goto (tgt := 429) dX9_works_421 (by decide) ?_
          refine xP.pick (lv' := []) [] rfl ?_
          exact uX9_works_429 hq
      · replace hq := hq.2 c293
        refine x_aload_n 1 dX9_works_380 rfl ?_
        refine x_iload_n 2 dX9_works_381 rfl ?_
        refine x_aload_n 1 dX9_works_382 rfl ?_
        have t307 : tg h290 x0 = 10 := by rw [e291]; exact g1
        refine x_get (v := rv (fR h290 x0 2309)) fdX9_35 dX9_works_383 t307 rfl ?_
        refine x_aload_n 1 dX9_works_386 rfl ?_
        refine x_get (v := .int (fI h290 x0 2310)) fdX9_86 dX9_works_387 t307 rfl ?_
        refine x_iconst (v := 1) dX9_works_390 (by decide) ?_
        refine x_isub dX9_works_391 ?_
        obtain ⟨g308, hq⟩ := hq
        obtain ⟨i309, hq⟩ := hq
        refine x_dald g308 i309 dX9_works_392 ?_
        refine x_aload_n 1 dX9_works_393 rfl ?_
        refine x_get (v := rv (fR h290 x0 2309)) fdX9_35 dX9_works_394 t307 rfl ?_
        refine x_aload_n 1 dX9_works_397 rfl ?_
        refine x_get (v := .int (fI h290 x0 2310)) fdX9_86 dX9_works_398 t307 rfl ?_
        obtain ⟨i310, hq⟩ := hq
        refine x_dald g308 i310 dX9_works_401 ?_
        refine x_iload_n 0 dX9_works_402 rfl ?_
        obtain ⟨g311, g312, hq⟩ := hq
        refine x_callV (Yc := YX9_ofFractions) (as := [.int x1, .double (aD h290 (fR h290 x0 2309) (Int32.toNatClampNeg ((fI h290 x0 2310) - 1))), .double (aD h290 (fR h290 x0 2309) (Int32.toNatClampNeg (fI h290 x0 2310))), .int (aI h (fR h (fR h x0 2304) 516) (Int32.toNatClampNeg x2))]) (st := []) q2952 mvX9_ofFractions t307 rfl dX9_works_403 (xle (xal1 (rv_cat _) (xal1 rfl (xal2 rfl (xal2 rfl (xal1 rfl xal0))))) (by decide)) (xfr g311) (xlo xsw0 (by decide) g312) (xKv hq (fun h313 hq e315 => ?_) (fun _ _ q _ => q))
        replace hq := hq e315
        refine x_goto (tgt := 429) dX9_works_406 (by decide) ?_
        refine xP.pick (lv' := []) [] rfl ?_
        exact uX9_works_429 hq
    · replace hq := hq.2 c292
      refine x_aload_n 1 dX9_works_345 rfl ?_
      refine x_iload_n 2 dX9_works_346 rfl ?_
      refine x_aload_n 1 dX9_works_347 rfl ?_
      have t316 : tg h290 x0 = 10 := by rw [e291]; exact g1
      refine x_get (v := rv (fR h290 x0 2307)) fdX9_28 dX9_works_348 t316 rfl ?_
      refine x_aload_n 1 dX9_works_351 rfl ?_
      refine x_get (v := .int (fI h290 x0 2310)) fdX9_86 dX9_works_352 t316 rfl ?_
      refine x_iconst (v := 1) dX9_works_355 (by decide) ?_
      refine x_isub dX9_works_356 ?_
      obtain ⟨g317, hq⟩ := hq
      obtain ⟨i318, hq⟩ := hq
      refine x_lald g317 i318 dX9_works_357 ?_
      refine x_aload_n 1 dX9_works_358 rfl ?_
      refine x_get (v := rv (fR h290 x0 2307)) fdX9_28 dX9_works_359 t316 rfl ?_
      refine x_aload_n 1 dX9_works_362 rfl ?_
      refine x_get (v := .int (fI h290 x0 2310)) fdX9_86 dX9_works_363 t316 rfl ?_
      obtain ⟨i319, hq⟩ := hq
      refine x_lald g317 i319 dX9_works_366 ?_
      refine x_iload_n 0 dX9_works_367 rfl ?_
      obtain ⟨g320, g321, hq⟩ := hq
      refine x_callV (Yc := YX9_ofWholes) (as := [.int x1, .long (aJ h290 (fR h290 x0 2307) (Int32.toNatClampNeg ((fI h290 x0 2310) - 1))), .long (aJ h290 (fR h290 x0 2307) (Int32.toNatClampNeg (fI h290 x0 2310))), .int (aI h (fR h (fR h x0 2304) 516) (Int32.toNatClampNeg x2))]) (st := []) q2942 mvX9_ofWholes t316 rfl dX9_works_368 (xle (xal1 (rv_cat _) (xal1 rfl (xal2 rfl (xal2 rfl (xal1 rfl xal0))))) (by decide)) (xfr g320) (xlo xsw0 (by decide) g321) (xKv hq (fun h322 hq e324 => ?_) (fun _ _ q _ => q))
      replace hq := hq e324
      refine x_goto (tgt := 429) dX9_works_371 (by decide) ?_
      refine xP.pick (lv' := []) [] rfl ?_
      exact uX9_works_429 hq
  replace hq := hq.2
  by_cases c325 : x1 = 38
  · replace hq := hq.1 c325
    refine x_tin (tgt := 329) (off := 318) 38 c325 dX9_works_11 (by decide) (by decide) (by decide) (by decide) ?_
    refine x_aload_n 1 dX9_works_329 rfl ?_
    refine x_dup dX9_works_330 (rv_cat _) ?_
    refine x_get (v := .int (fI h x0 2310)) fdX9_86 dX9_works_331 g1 rfl ?_
    refine x_iconst (v := 1) dX9_works_334 (by decide) ?_
    refine x_isub dX9_works_335 ?_
    obtain ⟨h326, e327⟩ : ∃ y, y = sI h x0 2310 ((fI h x0 2310) - 1) := ⟨_, rfl⟩
    replace hq := hq h326 e327
    refine x_putI fdX9_86 xty_I1 dX9_works_336 g1 (Or.inl (by rw [g1]; rfl)) xnI rfl e327 ?_
    refine x_iload_n 2 dX9_works_339 rfl ?_
    refine x_bipush (v := 26) dX9_works_340 (by decide) ?_
    refine x_icmp_ge (tgt := 374) dX9_works_342 (by decide) (fun c328 => ?_) (fun c328 => ?_)
    · replace hq := hq.1 c328
      refine x_iload_n 2 dX9_works_374 rfl ?_
      refine x_bipush (v := 30) dX9_works_375 (by decide) ?_
      refine x_icmp_ge (tgt := 409) dX9_works_377 (by decide) (fun c329 => ?_) (fun c329 => ?_)
      · replace hq := hq.1 c329
        refine x_iload_n 2 dX9_works_409 rfl ?_
        refine x_bipush (v := 41) dX9_works_410 (by decide) ?_
        refine x_icmp_ge (tgt := 424) dX9_works_412 (by decide) (fun c330 => ?_) (fun c330 => ?_)
        · replace hq := hq.1 c330
          refine x_aload_n 1 dX9_works_424 rfl ?_
          refine x_iload_n 2 dX9_works_425 rfl ?_
          have t331 : tg h326 x0 = 10 := by rw [e327]; exact g1
          obtain ⟨g332, g333, hq⟩ := hq
          refine x_callV (Yc := YX9_ofSets) (as := [.int x1]) (st := []) q2965 mvX9_ofSets t331 rfl dX9_works_426 (xle (xal1 (rv_cat _) (xal1 rfl xal0)) (by decide)) (xfr g332) (xlo xsw0 (by decide) g333) (xKv hq (fun h334 hq e336 => ?_) (fun _ _ q _ => q))
          replace hq := hq e336
          refine xP.pick (lv' := []) [] rfl ?_
          exact uX9_works_429 hq
        · replace hq := hq.2 c330
          refine x_aload_n 1 dX9_works_415 rfl ?_
          refine x_iload_n 2 dX9_works_416 rfl ?_
          refine x_iload_n 3 dX9_works_417 rfl ?_
          have t337 : tg h326 x0 = 10 := by rw [e327]; exact g1
          obtain ⟨g338, g339, hq⟩ := hq
          refine x_callV (Yc := YX9_compares) (as := [.int x1, .int x2]) (st := []) q2961 mvX9_compares t337 rfl dX9_works_418 (xle (xal1 (rv_cat _) (xal1 rfl (xal1 rfl xal0))) (by decide)) (xfr g338) (xlo xsw0 (by decide) g339) (xKv hq (fun h340 hq e342 => ?_) (fun _ _ q _ => q))
          replace hq := hq e342
          refine x_goto (tgt := 429) dX9_works_421 (by decide) ?_
          refine xP.pick (lv' := []) [] rfl ?_
          exact uX9_works_429 hq
      · replace hq := hq.2 c329
        refine x_aload_n 1 dX9_works_380 rfl ?_
        refine x_iload_n 2 dX9_works_381 rfl ?_
        refine x_aload_n 1 dX9_works_382 rfl ?_
        have t343 : tg h326 x0 = 10 := by rw [e327]; exact g1
        refine x_get (v := rv (fR h326 x0 2309)) fdX9_35 dX9_works_383 t343 rfl ?_
        refine x_aload_n 1 dX9_works_386 rfl ?_
        refine x_get (v := .int (fI h326 x0 2310)) fdX9_86 dX9_works_387 t343 rfl ?_
        refine x_iconst (v := 1) dX9_works_390 (by decide) ?_
        refine x_isub dX9_works_391 ?_
        obtain ⟨g344, hq⟩ := hq
        obtain ⟨i345, hq⟩ := hq
        refine x_dald g344 i345 dX9_works_392 ?_
        refine x_aload_n 1 dX9_works_393 rfl ?_
        refine x_get (v := rv (fR h326 x0 2309)) fdX9_35 dX9_works_394 t343 rfl ?_
        refine x_aload_n 1 dX9_works_397 rfl ?_
        refine x_get (v := .int (fI h326 x0 2310)) fdX9_86 dX9_works_398 t343 rfl ?_
        obtain ⟨i346, hq⟩ := hq
        refine x_dald g344 i346 dX9_works_401 ?_
        refine x_iload_n 0 dX9_works_402 rfl ?_
        obtain ⟨g347, g348, hq⟩ := hq
        refine x_callV (Yc := YX9_ofFractions) (as := [.int x1, .double (aD h326 (fR h326 x0 2309) (Int32.toNatClampNeg ((fI h326 x0 2310) - 1))), .double (aD h326 (fR h326 x0 2309) (Int32.toNatClampNeg (fI h326 x0 2310))), .int (aI h (fR h (fR h x0 2304) 516) (Int32.toNatClampNeg x2))]) (st := []) q2952 mvX9_ofFractions t343 rfl dX9_works_403 (xle (xal1 (rv_cat _) (xal1 rfl (xal2 rfl (xal2 rfl (xal1 rfl xal0))))) (by decide)) (xfr g347) (xlo xsw0 (by decide) g348) (xKv hq (fun h349 hq e351 => ?_) (fun _ _ q _ => q))
        replace hq := hq e351
        refine x_goto (tgt := 429) dX9_works_406 (by decide) ?_
        refine xP.pick (lv' := []) [] rfl ?_
        exact uX9_works_429 hq
    · replace hq := hq.2 c328
      refine x_aload_n 1 dX9_works_345 rfl ?_
      refine x_iload_n 2 dX9_works_346 rfl ?_
      refine x_aload_n 1 dX9_works_347 rfl ?_
      have t352 : tg h326 x0 = 10 := by rw [e327]; exact g1
      refine x_get (v := rv (fR h326 x0 2307)) fdX9_28 dX9_works_348 t352 rfl ?_
      refine x_aload_n 1 dX9_works_351 rfl ?_
      refine x_get (v := .int (fI h326 x0 2310)) fdX9_86 dX9_works_352 t352 rfl ?_
      refine x_iconst (v := 1) dX9_works_355 (by decide) ?_
      refine x_isub dX9_works_356 ?_
      obtain ⟨g353, hq⟩ := hq
      obtain ⟨i354, hq⟩ := hq
      refine x_lald g353 i354 dX9_works_357 ?_
      refine x_aload_n 1 dX9_works_358 rfl ?_
      refine x_get (v := rv (fR h326 x0 2307)) fdX9_28 dX9_works_359 t352 rfl ?_
      refine x_aload_n 1 dX9_works_362 rfl ?_
      refine x_get (v := .int (fI h326 x0 2310)) fdX9_86 dX9_works_363 t352 rfl ?_
      obtain ⟨i355, hq⟩ := hq
      refine x_lald g353 i355 dX9_works_366 ?_
      refine x_iload_n 0 dX9_works_367 rfl ?_
      obtain ⟨g356, g357, hq⟩ := hq
      refine x_callV (Yc := YX9_ofWholes) (as := [.int x1, .long (aJ h326 (fR h326 x0 2307) (Int32.toNatClampNeg ((fI h326 x0 2310) - 1))), .long (aJ h326 (fR h326 x0 2307) (Int32.toNatClampNeg (fI h326 x0 2310))), .int (aI h (fR h (fR h x0 2304) 516) (Int32.toNatClampNeg x2))]) (st := []) q2942 mvX9_ofWholes t352 rfl dX9_works_368 (xle (xal1 (rv_cat _) (xal1 rfl (xal2 rfl (xal2 rfl (xal1 rfl xal0))))) (by decide)) (xfr g356) (xlo xsw0 (by decide) g357) (xKv hq (fun h358 hq e360 => ?_) (fun _ _ q _ => q))
      replace hq := hq e360
      refine x_goto (tgt := 429) dX9_works_371 (by decide) ?_
      refine xP.pick (lv' := []) [] rfl ?_
      exact uX9_works_429 hq
  replace hq := hq.2
  by_cases c361 : x1 = 39
  · replace hq := hq.1 c361
    refine x_tin (tgt := 329) (off := 318) 39 c361 dX9_works_11 (by decide) (by decide) (by decide) (by decide) ?_
    refine x_aload_n 1 dX9_works_329 rfl ?_
    refine x_dup dX9_works_330 (rv_cat _) ?_
    refine x_get (v := .int (fI h x0 2310)) fdX9_86 dX9_works_331 g1 rfl ?_
    refine x_iconst (v := 1) dX9_works_334 (by decide) ?_
    refine x_isub dX9_works_335 ?_
    obtain ⟨h362, e363⟩ : ∃ y, y = sI h x0 2310 ((fI h x0 2310) - 1) := ⟨_, rfl⟩
    replace hq := hq h362 e363
    refine x_putI fdX9_86 xty_I1 dX9_works_336 g1 (Or.inl (by rw [g1]; rfl)) xnI rfl e363 ?_
    refine x_iload_n 2 dX9_works_339 rfl ?_
    refine x_bipush (v := 26) dX9_works_340 (by decide) ?_
    refine x_icmp_ge (tgt := 374) dX9_works_342 (by decide) (fun c364 => ?_) (fun c364 => ?_)
    · replace hq := hq.1 c364
      refine x_iload_n 2 dX9_works_374 rfl ?_
      refine x_bipush (v := 30) dX9_works_375 (by decide) ?_
      refine x_icmp_ge (tgt := 409) dX9_works_377 (by decide) (fun c365 => ?_) (fun c365 => ?_)
      · replace hq := hq.1 c365
        refine x_iload_n 2 dX9_works_409 rfl ?_
        refine x_bipush (v := 41) dX9_works_410 (by decide) ?_
        refine x_icmp_ge (tgt := 424) dX9_works_412 (by decide) (fun c366 => ?_) (fun c366 => ?_)
        · replace hq := hq.1 c366
          refine x_aload_n 1 dX9_works_424 rfl ?_
          refine x_iload_n 2 dX9_works_425 rfl ?_
          have t367 : tg h362 x0 = 10 := by rw [e363]; exact g1
          obtain ⟨g368, g369, hq⟩ := hq
          refine x_callV (Yc := YX9_ofSets) (as := [.int x1]) (st := []) q2965 mvX9_ofSets t367 rfl dX9_works_426 (xle (xal1 (rv_cat _) (xal1 rfl xal0)) (by decide)) (xfr g368) (xlo xsw0 (by decide) g369) (xKv hq (fun h370 hq e372 => ?_) (fun _ _ q _ => q))
          replace hq := hq e372
          refine xP.pick (lv' := []) [] rfl ?_
          exact uX9_works_429 hq
        · replace hq := hq.2 c366
          refine x_aload_n 1 dX9_works_415 rfl ?_
          refine x_iload_n 2 dX9_works_416 rfl ?_
          refine x_iload_n 3 dX9_works_417 rfl ?_
          have t373 : tg h362 x0 = 10 := by rw [e363]; exact g1
          obtain ⟨g374, g375, hq⟩ := hq
          refine x_callV (Yc := YX9_compares) (as := [.int x1, .int x2]) (st := []) q2961 mvX9_compares t373 rfl dX9_works_418 (xle (xal1 (rv_cat _) (xal1 rfl (xal1 rfl xal0))) (by decide)) (xfr g374) (xlo xsw0 (by decide) g375) (xKv hq (fun h376 hq e378 => ?_) (fun _ _ q _ => q))
          replace hq := hq e378
          refine x_goto (tgt := 429) dX9_works_421 (by decide) ?_
          refine xP.pick (lv' := []) [] rfl ?_
          exact uX9_works_429 hq
      · replace hq := hq.2 c365
        refine x_aload_n 1 dX9_works_380 rfl ?_
        refine x_iload_n 2 dX9_works_381 rfl ?_
        refine x_aload_n 1 dX9_works_382 rfl ?_
        have t379 : tg h362 x0 = 10 := by rw [e363]; exact g1
        refine x_get (v := rv (fR h362 x0 2309)) fdX9_35 dX9_works_383 t379 rfl ?_
        refine x_aload_n 1 dX9_works_386 rfl ?_
        refine x_get (v := .int (fI h362 x0 2310)) fdX9_86 dX9_works_387 t379 rfl ?_
        refine x_iconst (v := 1) dX9_works_390 (by decide) ?_
        refine x_isub dX9_works_391 ?_
        obtain ⟨g380, hq⟩ := hq
        obtain ⟨i381, hq⟩ := hq
        refine x_dald g380 i381 dX9_works_392 ?_
        refine x_aload_n 1 dX9_works_393 rfl ?_
        refine x_get (v := rv (fR h362 x0 2309)) fdX9_35 dX9_works_394 t379 rfl ?_
        refine x_aload_n 1 dX9_works_397 rfl ?_
        refine x_get (v := .int (fI h362 x0 2310)) fdX9_86 dX9_works_398 t379 rfl ?_
        obtain ⟨i382, hq⟩ := hq
        refine x_dald g380 i382 dX9_works_401 ?_
        refine x_iload_n 0 dX9_works_402 rfl ?_
        obtain ⟨g383, g384, hq⟩ := hq
        refine x_callV (Yc := YX9_ofFractions) (as := [.int x1, .double (aD h362 (fR h362 x0 2309) (Int32.toNatClampNeg ((fI h362 x0 2310) - 1))), .double (aD h362 (fR h362 x0 2309) (Int32.toNatClampNeg (fI h362 x0 2310))), .int (aI h (fR h (fR h x0 2304) 516) (Int32.toNatClampNeg x2))]) (st := []) q2952 mvX9_ofFractions t379 rfl dX9_works_403 (xle (xal1 (rv_cat _) (xal1 rfl (xal2 rfl (xal2 rfl (xal1 rfl xal0))))) (by decide)) (xfr g383) (xlo xsw0 (by decide) g384) (xKv hq (fun h385 hq e387 => ?_) (fun _ _ q _ => q))
        replace hq := hq e387
        refine x_goto (tgt := 429) dX9_works_406 (by decide) ?_
        refine xP.pick (lv' := []) [] rfl ?_
        exact uX9_works_429 hq
    · replace hq := hq.2 c364
      refine x_aload_n 1 dX9_works_345 rfl ?_
      refine x_iload_n 2 dX9_works_346 rfl ?_
      refine x_aload_n 1 dX9_works_347 rfl ?_
      have t388 : tg h362 x0 = 10 := by rw [e363]; exact g1
      refine x_get (v := rv (fR h362 x0 2307)) fdX9_28 dX9_works_348 t388 rfl ?_
      refine x_aload_n 1 dX9_works_351 rfl ?_
      refine x_get (v := .int (fI h362 x0 2310)) fdX9_86 dX9_works_352 t388 rfl ?_
      refine x_iconst (v := 1) dX9_works_355 (by decide) ?_
      refine x_isub dX9_works_356 ?_
      obtain ⟨g389, hq⟩ := hq
      obtain ⟨i390, hq⟩ := hq
      refine x_lald g389 i390 dX9_works_357 ?_
      refine x_aload_n 1 dX9_works_358 rfl ?_
      refine x_get (v := rv (fR h362 x0 2307)) fdX9_28 dX9_works_359 t388 rfl ?_
      refine x_aload_n 1 dX9_works_362 rfl ?_
      refine x_get (v := .int (fI h362 x0 2310)) fdX9_86 dX9_works_363 t388 rfl ?_
      obtain ⟨i391, hq⟩ := hq
      refine x_lald g389 i391 dX9_works_366 ?_
      refine x_iload_n 0 dX9_works_367 rfl ?_
      obtain ⟨g392, g393, hq⟩ := hq
      refine x_callV (Yc := YX9_ofWholes) (as := [.int x1, .long (aJ h362 (fR h362 x0 2307) (Int32.toNatClampNeg ((fI h362 x0 2310) - 1))), .long (aJ h362 (fR h362 x0 2307) (Int32.toNatClampNeg (fI h362 x0 2310))), .int (aI h (fR h (fR h x0 2304) 516) (Int32.toNatClampNeg x2))]) (st := []) q2942 mvX9_ofWholes t388 rfl dX9_works_368 (xle (xal1 (rv_cat _) (xal1 rfl (xal2 rfl (xal2 rfl (xal1 rfl xal0))))) (by decide)) (xfr g392) (xlo xsw0 (by decide) g393) (xKv hq (fun h394 hq e396 => ?_) (fun _ _ q _ => q))
      replace hq := hq e396
      refine x_goto (tgt := 429) dX9_works_371 (by decide) ?_
      refine xP.pick (lv' := []) [] rfl ?_
      exact uX9_works_429 hq
  replace hq := hq.2
  by_cases c397 : x1 = 40
  · replace hq := hq.1 c397
    refine x_tin (tgt := 329) (off := 318) 40 c397 dX9_works_11 (by decide) (by decide) (by decide) (by decide) ?_
    refine x_aload_n 1 dX9_works_329 rfl ?_
    refine x_dup dX9_works_330 (rv_cat _) ?_
    refine x_get (v := .int (fI h x0 2310)) fdX9_86 dX9_works_331 g1 rfl ?_
    refine x_iconst (v := 1) dX9_works_334 (by decide) ?_
    refine x_isub dX9_works_335 ?_
    obtain ⟨h398, e399⟩ : ∃ y, y = sI h x0 2310 ((fI h x0 2310) - 1) := ⟨_, rfl⟩
    replace hq := hq h398 e399
    refine x_putI fdX9_86 xty_I1 dX9_works_336 g1 (Or.inl (by rw [g1]; rfl)) xnI rfl e399 ?_
    refine x_iload_n 2 dX9_works_339 rfl ?_
    refine x_bipush (v := 26) dX9_works_340 (by decide) ?_
    refine x_icmp_ge (tgt := 374) dX9_works_342 (by decide) (fun c400 => ?_) (fun c400 => ?_)
    · replace hq := hq.1 c400
      refine x_iload_n 2 dX9_works_374 rfl ?_
      refine x_bipush (v := 30) dX9_works_375 (by decide) ?_
      refine x_icmp_ge (tgt := 409) dX9_works_377 (by decide) (fun c401 => ?_) (fun c401 => ?_)
      · replace hq := hq.1 c401
        refine x_iload_n 2 dX9_works_409 rfl ?_
        refine x_bipush (v := 41) dX9_works_410 (by decide) ?_
        refine x_icmp_ge (tgt := 424) dX9_works_412 (by decide) (fun c402 => ?_) (fun c402 => ?_)
        · replace hq := hq.1 c402
          refine x_aload_n 1 dX9_works_424 rfl ?_
          refine x_iload_n 2 dX9_works_425 rfl ?_
          have t403 : tg h398 x0 = 10 := by rw [e399]; exact g1
          obtain ⟨g404, g405, hq⟩ := hq
          refine x_callV (Yc := YX9_ofSets) (as := [.int x1]) (st := []) q2965 mvX9_ofSets t403 rfl dX9_works_426 (xle (xal1 (rv_cat _) (xal1 rfl xal0)) (by decide)) (xfr g404) (xlo xsw0 (by decide) g405) (xKv hq (fun h406 hq e408 => ?_) (fun _ _ q _ => q))
          replace hq := hq e408
          refine xP.pick (lv' := []) [] rfl ?_
          exact uX9_works_429 hq
        · replace hq := hq.2 c402
          refine x_aload_n 1 dX9_works_415 rfl ?_
          refine x_iload_n 2 dX9_works_416 rfl ?_
          refine x_iload_n 3 dX9_works_417 rfl ?_
          have t409 : tg h398 x0 = 10 := by rw [e399]; exact g1
          obtain ⟨g410, g411, hq⟩ := hq
          refine x_callV (Yc := YX9_compares) (as := [.int x1, .int x2]) (st := []) q2961 mvX9_compares t409 rfl dX9_works_418 (xle (xal1 (rv_cat _) (xal1 rfl (xal1 rfl xal0))) (by decide)) (xfr g410) (xlo xsw0 (by decide) g411) (xKv hq (fun h412 hq e414 => ?_) (fun _ _ q _ => q))
          replace hq := hq e414
          refine x_goto (tgt := 429) dX9_works_421 (by decide) ?_
          refine xP.pick (lv' := []) [] rfl ?_
          exact uX9_works_429 hq
      · replace hq := hq.2 c401
        refine x_aload_n 1 dX9_works_380 rfl ?_
        refine x_iload_n 2 dX9_works_381 rfl ?_
        refine x_aload_n 1 dX9_works_382 rfl ?_
        have t415 : tg h398 x0 = 10 := by rw [e399]; exact g1
        refine x_get (v := rv (fR h398 x0 2309)) fdX9_35 dX9_works_383 t415 rfl ?_
        refine x_aload_n 1 dX9_works_386 rfl ?_
        refine x_get (v := .int (fI h398 x0 2310)) fdX9_86 dX9_works_387 t415 rfl ?_
        refine x_iconst (v := 1) dX9_works_390 (by decide) ?_
        refine x_isub dX9_works_391 ?_
        obtain ⟨g416, hq⟩ := hq
        obtain ⟨i417, hq⟩ := hq
        refine x_dald g416 i417 dX9_works_392 ?_
        refine x_aload_n 1 dX9_works_393 rfl ?_
        refine x_get (v := rv (fR h398 x0 2309)) fdX9_35 dX9_works_394 t415 rfl ?_
        refine x_aload_n 1 dX9_works_397 rfl ?_
        refine x_get (v := .int (fI h398 x0 2310)) fdX9_86 dX9_works_398 t415 rfl ?_
        obtain ⟨i418, hq⟩ := hq
        refine x_dald g416 i418 dX9_works_401 ?_
        refine x_iload_n 0 dX9_works_402 rfl ?_
        obtain ⟨g419, g420, hq⟩ := hq
        refine x_callV (Yc := YX9_ofFractions) (as := [.int x1, .double (aD h398 (fR h398 x0 2309) (Int32.toNatClampNeg ((fI h398 x0 2310) - 1))), .double (aD h398 (fR h398 x0 2309) (Int32.toNatClampNeg (fI h398 x0 2310))), .int (aI h (fR h (fR h x0 2304) 516) (Int32.toNatClampNeg x2))]) (st := []) q2952 mvX9_ofFractions t415 rfl dX9_works_403 (xle (xal1 (rv_cat _) (xal1 rfl (xal2 rfl (xal2 rfl (xal1 rfl xal0))))) (by decide)) (xfr g419) (xlo xsw0 (by decide) g420) (xKv hq (fun h421 hq e423 => ?_) (fun _ _ q _ => q))
        replace hq := hq e423
        refine x_goto (tgt := 429) dX9_works_406 (by decide) ?_
        refine xP.pick (lv' := []) [] rfl ?_
        exact uX9_works_429 hq
    · replace hq := hq.2 c400
      refine x_aload_n 1 dX9_works_345 rfl ?_
      refine x_iload_n 2 dX9_works_346 rfl ?_
      refine x_aload_n 1 dX9_works_347 rfl ?_
      have t424 : tg h398 x0 = 10 := by rw [e399]; exact g1
      refine x_get (v := rv (fR h398 x0 2307)) fdX9_28 dX9_works_348 t424 rfl ?_
      refine x_aload_n 1 dX9_works_351 rfl ?_
      refine x_get (v := .int (fI h398 x0 2310)) fdX9_86 dX9_works_352 t424 rfl ?_
      refine x_iconst (v := 1) dX9_works_355 (by decide) ?_
      refine x_isub dX9_works_356 ?_
      obtain ⟨g425, hq⟩ := hq
      obtain ⟨i426, hq⟩ := hq
      refine x_lald g425 i426 dX9_works_357 ?_
      refine x_aload_n 1 dX9_works_358 rfl ?_
      refine x_get (v := rv (fR h398 x0 2307)) fdX9_28 dX9_works_359 t424 rfl ?_
      refine x_aload_n 1 dX9_works_362 rfl ?_
      refine x_get (v := .int (fI h398 x0 2310)) fdX9_86 dX9_works_363 t424 rfl ?_
      obtain ⟨i427, hq⟩ := hq
      refine x_lald g425 i427 dX9_works_366 ?_
      refine x_iload_n 0 dX9_works_367 rfl ?_
      obtain ⟨g428, g429, hq⟩ := hq
      refine x_callV (Yc := YX9_ofWholes) (as := [.int x1, .long (aJ h398 (fR h398 x0 2307) (Int32.toNatClampNeg ((fI h398 x0 2310) - 1))), .long (aJ h398 (fR h398 x0 2307) (Int32.toNatClampNeg (fI h398 x0 2310))), .int (aI h (fR h (fR h x0 2304) 516) (Int32.toNatClampNeg x2))]) (st := []) q2942 mvX9_ofWholes t424 rfl dX9_works_368 (xle (xal1 (rv_cat _) (xal1 rfl (xal2 rfl (xal2 rfl (xal1 rfl xal0))))) (by decide)) (xfr g428) (xlo xsw0 (by decide) g429) (xKv hq (fun h430 hq e432 => ?_) (fun _ _ q _ => q))
      replace hq := hq e432
      refine x_goto (tgt := 429) dX9_works_371 (by decide) ?_
      refine xP.pick (lv' := []) [] rfl ?_
      exact uX9_works_429 hq
  replace hq := hq.2
  by_cases c433 : x1 = 41
  · replace hq := hq.1 c433
    refine x_tin (tgt := 329) (off := 318) 41 c433 dX9_works_11 (by decide) (by decide) (by decide) (by decide) ?_
    refine x_aload_n 1 dX9_works_329 rfl ?_
    refine x_dup dX9_works_330 (rv_cat _) ?_
    refine x_get (v := .int (fI h x0 2310)) fdX9_86 dX9_works_331 g1 rfl ?_
    refine x_iconst (v := 1) dX9_works_334 (by decide) ?_
    refine x_isub dX9_works_335 ?_
    obtain ⟨h434, e435⟩ : ∃ y, y = sI h x0 2310 ((fI h x0 2310) - 1) := ⟨_, rfl⟩
    replace hq := hq h434 e435
    refine x_putI fdX9_86 xty_I1 dX9_works_336 g1 (Or.inl (by rw [g1]; rfl)) xnI rfl e435 ?_
    refine x_iload_n 2 dX9_works_339 rfl ?_
    refine x_bipush (v := 26) dX9_works_340 (by decide) ?_
    refine x_icmp_ge (tgt := 374) dX9_works_342 (by decide) (fun c436 => ?_) (fun c436 => ?_)
    · replace hq := hq.1 c436
      refine x_iload_n 2 dX9_works_374 rfl ?_
      refine x_bipush (v := 30) dX9_works_375 (by decide) ?_
      refine x_icmp_ge (tgt := 409) dX9_works_377 (by decide) (fun c437 => ?_) (fun c437 => ?_)
      · replace hq := hq.1 c437
        refine x_iload_n 2 dX9_works_409 rfl ?_
        refine x_bipush (v := 41) dX9_works_410 (by decide) ?_
        refine x_icmp_ge (tgt := 424) dX9_works_412 (by decide) (fun c438 => ?_) (fun c438 => ?_)
        · replace hq := hq.1 c438
          refine x_aload_n 1 dX9_works_424 rfl ?_
          refine x_iload_n 2 dX9_works_425 rfl ?_
          have t439 : tg h434 x0 = 10 := by rw [e435]; exact g1
          obtain ⟨g440, g441, hq⟩ := hq
          refine x_callV (Yc := YX9_ofSets) (as := [.int x1]) (st := []) q2965 mvX9_ofSets t439 rfl dX9_works_426 (xle (xal1 (rv_cat _) (xal1 rfl xal0)) (by decide)) (xfr g440) (xlo xsw0 (by decide) g441) (xKv hq (fun h442 hq e444 => ?_) (fun _ _ q _ => q))
          replace hq := hq e444
          refine xP.pick (lv' := []) [] rfl ?_
          exact uX9_works_429 hq
        · replace hq := hq.2 c438
          refine x_aload_n 1 dX9_works_415 rfl ?_
          refine x_iload_n 2 dX9_works_416 rfl ?_
          refine x_iload_n 3 dX9_works_417 rfl ?_
          have t445 : tg h434 x0 = 10 := by rw [e435]; exact g1
          obtain ⟨g446, g447, hq⟩ := hq
          refine x_callV (Yc := YX9_compares) (as := [.int x1, .int x2]) (st := []) q2961 mvX9_compares t445 rfl dX9_works_418 (xle (xal1 (rv_cat _) (xal1 rfl (xal1 rfl xal0))) (by decide)) (xfr g446) (xlo xsw0 (by decide) g447) (xKv hq (fun h448 hq e450 => ?_) (fun _ _ q _ => q))
          replace hq := hq e450
          refine x_goto (tgt := 429) dX9_works_421 (by decide) ?_
          refine xP.pick (lv' := []) [] rfl ?_
          exact uX9_works_429 hq
      · replace hq := hq.2 c437
        refine x_aload_n 1 dX9_works_380 rfl ?_
        refine x_iload_n 2 dX9_works_381 rfl ?_
        refine x_aload_n 1 dX9_works_382 rfl ?_
        have t451 : tg h434 x0 = 10 := by rw [e435]; exact g1
        refine x_get (v := rv (fR h434 x0 2309)) fdX9_35 dX9_works_383 t451 rfl ?_
        refine x_aload_n 1 dX9_works_386 rfl ?_
        refine x_get (v := .int (fI h434 x0 2310)) fdX9_86 dX9_works_387 t451 rfl ?_
        refine x_iconst (v := 1) dX9_works_390 (by decide) ?_
        refine x_isub dX9_works_391 ?_
        obtain ⟨g452, hq⟩ := hq
        obtain ⟨i453, hq⟩ := hq
        refine x_dald g452 i453 dX9_works_392 ?_
        refine x_aload_n 1 dX9_works_393 rfl ?_
        refine x_get (v := rv (fR h434 x0 2309)) fdX9_35 dX9_works_394 t451 rfl ?_
        refine x_aload_n 1 dX9_works_397 rfl ?_
        refine x_get (v := .int (fI h434 x0 2310)) fdX9_86 dX9_works_398 t451 rfl ?_
        obtain ⟨i454, hq⟩ := hq
        refine x_dald g452 i454 dX9_works_401 ?_
        refine x_iload_n 0 dX9_works_402 rfl ?_
        obtain ⟨g455, g456, hq⟩ := hq
        refine x_callV (Yc := YX9_ofFractions) (as := [.int x1, .double (aD h434 (fR h434 x0 2309) (Int32.toNatClampNeg ((fI h434 x0 2310) - 1))), .double (aD h434 (fR h434 x0 2309) (Int32.toNatClampNeg (fI h434 x0 2310))), .int (aI h (fR h (fR h x0 2304) 516) (Int32.toNatClampNeg x2))]) (st := []) q2952 mvX9_ofFractions t451 rfl dX9_works_403 (xle (xal1 (rv_cat _) (xal1 rfl (xal2 rfl (xal2 rfl (xal1 rfl xal0))))) (by decide)) (xfr g455) (xlo xsw0 (by decide) g456) (xKv hq (fun h457 hq e459 => ?_) (fun _ _ q _ => q))
        replace hq := hq e459
        refine x_goto (tgt := 429) dX9_works_406 (by decide) ?_
        refine xP.pick (lv' := []) [] rfl ?_
        exact uX9_works_429 hq
    · replace hq := hq.2 c436
      refine x_aload_n 1 dX9_works_345 rfl ?_
      refine x_iload_n 2 dX9_works_346 rfl ?_
      refine x_aload_n 1 dX9_works_347 rfl ?_
      have t460 : tg h434 x0 = 10 := by rw [e435]; exact g1
      refine x_get (v := rv (fR h434 x0 2307)) fdX9_28 dX9_works_348 t460 rfl ?_
      refine x_aload_n 1 dX9_works_351 rfl ?_
      refine x_get (v := .int (fI h434 x0 2310)) fdX9_86 dX9_works_352 t460 rfl ?_
      refine x_iconst (v := 1) dX9_works_355 (by decide) ?_
      refine x_isub dX9_works_356 ?_
      obtain ⟨g461, hq⟩ := hq
      obtain ⟨i462, hq⟩ := hq
      refine x_lald g461 i462 dX9_works_357 ?_
      refine x_aload_n 1 dX9_works_358 rfl ?_
      refine x_get (v := rv (fR h434 x0 2307)) fdX9_28 dX9_works_359 t460 rfl ?_
      refine x_aload_n 1 dX9_works_362 rfl ?_
      refine x_get (v := .int (fI h434 x0 2310)) fdX9_86 dX9_works_363 t460 rfl ?_
      obtain ⟨i463, hq⟩ := hq
      refine x_lald g461 i463 dX9_works_366 ?_
      refine x_iload_n 0 dX9_works_367 rfl ?_
      obtain ⟨g464, g465, hq⟩ := hq
      refine x_callV (Yc := YX9_ofWholes) (as := [.int x1, .long (aJ h434 (fR h434 x0 2307) (Int32.toNatClampNeg ((fI h434 x0 2310) - 1))), .long (aJ h434 (fR h434 x0 2307) (Int32.toNatClampNeg (fI h434 x0 2310))), .int (aI h (fR h (fR h x0 2304) 516) (Int32.toNatClampNeg x2))]) (st := []) q2942 mvX9_ofWholes t460 rfl dX9_works_368 (xle (xal1 (rv_cat _) (xal1 rfl (xal2 rfl (xal2 rfl (xal1 rfl xal0))))) (by decide)) (xfr g464) (xlo xsw0 (by decide) g465) (xKv hq (fun h466 hq e468 => ?_) (fun _ _ q _ => q))
      replace hq := hq e468
      refine x_goto (tgt := 429) dX9_works_371 (by decide) ?_
      refine xP.pick (lv' := []) [] rfl ?_
      exact uX9_works_429 hq
  replace hq := hq.2
  by_cases c469 : x1 = 42
  · replace hq := hq.1 c469
    refine x_tin (tgt := 235) (off := 224) 42 c469 dX9_works_11 (by decide) (by decide) (by decide) (by decide) ?_
    refine x_aload_n 1 dX9_works_235 rfl ?_
    refine x_lconst (v := 0) dX9_works_236 (by decide) ?_
    obtain ⟨g470, g471, hq⟩ := hq
    refine x_callV (Yc := YX9_push) (as := [.long 0]) (st := []) q2891 mvX9_push g1 rfl dX9_works_237 (xle (xal1 (rv_cat _) (xal2 rfl xal0)) (by decide)) (xfr g470) (xlo xsw0 (by decide) g471) (xKv hq (fun h472 hq e474 => ?_) (fun _ _ q _ => q))
    replace hq := hq e474
    refine x_aload_n 1 dX9_works_240 rfl ?_
    have t475 : tg h472 x0 = 10 := e474.tg g1 (by decide)
    refine x_get (v := rv (fR h472 x0 2308)) fdX9_32 dX9_works_241 t475 rfl ?_
    refine x_aload_n 1 dX9_works_244 rfl ?_
    refine x_get (v := .int (fI h472 x0 2310)) fdX9_86 dX9_works_245 t475 rfl ?_
    refine x_iconst (v := 1) dX9_works_248 (by decide) ?_
    refine x_isub dX9_works_249 ?_
    refine x_lconst (v := 0) dX9_works_250 (by decide) ?_
    obtain ⟨g476, hq⟩ := hq
    obtain ⟨i477, hq⟩ := hq
    obtain ⟨h478, e479⟩ : ∃ y, y = tJ h472 (fR h472 x0 2308) (Int32.toNatClampNeg ((fI h472 x0 2310) - 1)) 0 := ⟨_, rfl⟩
    replace hq := hq h478 e479
    refine x_last' g476 i477 dX9_works_251 e479 ?_
    refine x_goto (tgt := 429) dX9_works_252 (by decide) ?_
    refine xP.pick (lv' := []) [] rfl ?_
    exact uX9_works_429 hq
  replace hq := hq.2
  by_cases c480 : x1 = 43
  · replace hq := hq.1 c480
    refine x_tin (tgt := 263) (off := 252) 43 c480 dX9_works_11 (by decide) (by decide) (by decide) (by decide) ?_
    refine x_aload_n 1 dX9_works_263 rfl ?_
    refine x_dup dX9_works_264 (rv_cat _) ?_
    refine x_get (v := .int (fI h x0 2310)) fdX9_86 dX9_works_265 g1 rfl ?_
    refine x_iconst (v := 1) dX9_works_268 (by decide) ?_
    refine x_isub dX9_works_269 ?_
    obtain ⟨h481, e482⟩ : ∃ y, y = sI h x0 2310 ((fI h x0 2310) - 1) := ⟨_, rfl⟩
    replace hq := hq h481 e482
    refine x_putI fdX9_86 xty_I1 dX9_works_270 g1 (Or.inl (by rw [g1]; rfl)) xnI rfl e482 ?_
    refine x_aload_n 1 dX9_works_273 rfl ?_
    have t483 : tg h481 x0 = 10 := by rw [e482]; exact g1
    refine x_get (v := rv (fR h481 x0 2307)) fdX9_28 dX9_works_274 t483 rfl ?_
    refine x_aload_n 1 dX9_works_277 rfl ?_
    refine x_get (v := .int (fI h481 x0 2310)) fdX9_86 dX9_works_278 t483 rfl ?_
    obtain ⟨g484, hq⟩ := hq
    obtain ⟨i485, hq⟩ := hq
    refine x_lald g484 i485 dX9_works_281 ?_
    refine x_lconst (v := 0) dX9_works_282 (by decide) ?_
    refine x_lcmp dX9_works_283 ?_
    refine x_if_lt (tgt := 303) dX9_works_284 (by decide) (fun c486 => ?_) (fun c486 => ?_)
    · replace hq := hq.1 c486
      refine xP.pick (lv' := [(0, rv x0), (3, .int (aI h (fR h (fR h x0 2304) 516) (Int32.toNatClampNeg x2)))]) [1, 0] rfl ?_
      exact uX9_works_303 hq
    · replace hq := hq.2 c486
      refine x_aload_n 1 dX9_works_287 rfl ?_
      refine x_get (v := rv (fR h481 x0 2307)) fdX9_28 dX9_works_288 t483 rfl ?_
      refine x_aload_n 1 dX9_works_291 rfl ?_
      refine x_get (v := .int (fI h481 x0 2310)) fdX9_86 dX9_works_292 t483 rfl ?_
      obtain ⟨i487, hq⟩ := hq
      refine x_lald g484 i487 dX9_works_295 ?_
      refine x_ldc2 (v := 127) q2937 dX9_works_296 ?_
      refine x_lcmp dX9_works_299 ?_
      refine x_if_le (tgt := 312) dX9_works_300 (by decide) (fun c488 => ?_) (fun c488 => ?_)
      · replace hq := hq.1 c488
        refine x_aload_n 1 dX9_works_312 rfl ?_
        refine x_aload_n 1 dX9_works_313 rfl ?_
        refine x_get (v := rv (fR h481 x0 2307)) fdX9_28 dX9_works_314 t483 rfl ?_
        refine x_aload_n 1 dX9_works_317 rfl ?_
        refine x_get (v := .int (fI h481 x0 2310)) fdX9_86 dX9_works_318 t483 rfl ?_
        obtain ⟨i489, hq⟩ := hq
        refine x_lald g484 i489 dX9_works_321 ?_
        refine x_l2i dX9_works_322 ?_
        obtain ⟨g490, g491, hq⟩ := hq
        refine x_callV (Yc := YX9_puts) (as := [.int (Int64.toInt32 (aJ h481 (fR h481 x0 2307) (Int32.toNatClampNeg (fI h481 x0 2310))))]) (st := []) q2938 mvX9_puts t483 rfl dX9_works_323 (xle (xal1 (rv_cat _) (xal1 rfl xal0)) (by decide)) (xfr g490) (xlo xsw0 (by decide) g491) (xKv hq (fun h492 hq e494 => ?_) (fun _ _ q _ => q))
        replace hq := hq e494
        refine x_goto (tgt := 429) dX9_works_326 (by decide) ?_
        refine xP.pick (lv' := []) [] rfl ?_
        exact uX9_works_429 hq
      · replace hq := hq.2 c488
        refine xP.pick (lv' := [(0, rv x0), (3, .int (aI h (fR h (fR h x0 2304) 516) (Int32.toNatClampNeg x2)))]) [1, 0] rfl ?_
        exact uX9_works_303 hq
  replace hq := hq.2
  by_cases c495 : x1 = 44
  · replace hq := hq.1 c495
    refine x_tin (tgt := 255) (off := 244) 44 c495 dX9_works_11 (by decide) (by decide) (by decide) (by decide) ?_
    refine x_aload_n 1 dX9_works_255 rfl ?_
    refine x_iload_n 0 dX9_works_256 rfl ?_
    obtain ⟨g496, g497, hq⟩ := hq
    refine x_callV (Yc := YX9_spans) (as := [.int (aI h (fR h (fR h x0 2304) 516) (Int32.toNatClampNeg x2))]) (st := []) q2933 mvX9_spans g1 rfl dX9_works_257 (xle (xal1 (rv_cat _) (xal1 rfl xal0)) (by decide)) (xfr g496) (xlo xsw0 (by decide) g497) (xKv hq (fun h498 hq e500 => ?_) (fun _ _ q _ => q))
    replace hq := hq e500
    refine x_goto (tgt := 429) dX9_works_260 (by decide) ?_
    refine xP.pick (lv' := []) [] rfl ?_
    exact uX9_works_429 hq
  replace hq := hq.2
  replace hq := hq c5 c11 c47 c83 c119 c155 c161 c168 c175 c211 c247 c253 c289 c325 c361 c397 c433 c469 c480 c495
  have nc5 := lv_neT c5 (show (25 : Int32).toInt = 25 from by decide)
  have nc11 := lv_neT c11 (show (26 : Int32).toInt = 26 from by decide)
  have nc47 := lv_neT c47 (show (27 : Int32).toInt = 27 from by decide)
  have nc83 := lv_neT c83 (show (28 : Int32).toInt = 28 from by decide)
  have nc119 := lv_neT c119 (show (29 : Int32).toInt = 29 from by decide)
  have nc155 := lv_neT c155 (show (30 : Int32).toInt = 30 from by decide)
  have nc161 := lv_neT c161 (show (31 : Int32).toInt = 31 from by decide)
  have nc168 := lv_neT c168 (show (32 : Int32).toInt = 32 from by decide)
  have nc175 := lv_neT c175 (show (33 : Int32).toInt = 33 from by decide)
  have nc211 := lv_neT c211 (show (34 : Int32).toInt = 34 from by decide)
  have nc247 := lv_neT c247 (show (35 : Int32).toInt = 35 from by decide)
  have nc253 := lv_neT c253 (show (36 : Int32).toInt = 36 from by decide)
  have nc289 := lv_neT c289 (show (37 : Int32).toInt = 37 from by decide)
  have nc325 := lv_neT c325 (show (38 : Int32).toInt = 38 from by decide)
  have nc361 := lv_neT c361 (show (39 : Int32).toInt = 39 from by decide)
  have nc397 := lv_neT c397 (show (40 : Int32).toInt = 40 from by decide)
  have nc433 := lv_neT c433 (show (41 : Int32).toInt = 41 from by decide)
  have nc469 := lv_neT c469 (show (42 : Int32).toInt = 42 from by decide)
  have nc480 := lv_neT c480 (show (43 : Int32).toInt = 43 from by decide)
  have nc495 := lv_neT c495 (show (44 : Int32).toInt = 44 from by decide)
  refine x_tout (tgt := 329) dX9_works_11 (by omega) (by decide) ?_
  refine x_aload_n 1 dX9_works_329 rfl ?_
  refine x_dup dX9_works_330 (rv_cat _) ?_
  refine x_get (v := .int (fI h x0 2310)) fdX9_86 dX9_works_331 g1 rfl ?_
  refine x_iconst (v := 1) dX9_works_334 (by decide) ?_
  refine x_isub dX9_works_335 ?_
  obtain ⟨h501, e502⟩ : ∃ y, y = sI h x0 2310 ((fI h x0 2310) - 1) := ⟨_, rfl⟩
  replace hq := hq h501 e502
  refine x_putI fdX9_86 xty_I1 dX9_works_336 g1 (Or.inl (by rw [g1]; rfl)) xnI rfl e502 ?_
  refine x_iload_n 2 dX9_works_339 rfl ?_
  refine x_bipush (v := 26) dX9_works_340 (by decide) ?_
  refine x_icmp_ge (tgt := 374) dX9_works_342 (by decide) (fun c503 => ?_) (fun c503 => ?_)
  · replace hq := hq.1 c503
    refine x_iload_n 2 dX9_works_374 rfl ?_
    refine x_bipush (v := 30) dX9_works_375 (by decide) ?_
    refine x_icmp_ge (tgt := 409) dX9_works_377 (by decide) (fun c504 => ?_) (fun c504 => ?_)
    · replace hq := hq.1 c504
      refine x_iload_n 2 dX9_works_409 rfl ?_
      refine x_bipush (v := 41) dX9_works_410 (by decide) ?_
      refine x_icmp_ge (tgt := 424) dX9_works_412 (by decide) (fun c505 => ?_) (fun c505 => ?_)
      · replace hq := hq.1 c505
        refine x_aload_n 1 dX9_works_424 rfl ?_
        refine x_iload_n 2 dX9_works_425 rfl ?_
        have t506 : tg h501 x0 = 10 := by rw [e502]; exact g1
        obtain ⟨g507, g508, hq⟩ := hq
        refine x_callV (Yc := YX9_ofSets) (as := [.int x1]) (st := []) q2965 mvX9_ofSets t506 rfl dX9_works_426 (xle (xal1 (rv_cat _) (xal1 rfl xal0)) (by decide)) (xfr g507) (xlo xsw0 (by decide) g508) (xKv hq (fun h509 hq e511 => ?_) (fun _ _ q _ => q))
        replace hq := hq e511
        refine xP.pick (lv' := []) [] rfl ?_
        exact uX9_works_429 hq
      · replace hq := hq.2 c505
        refine x_aload_n 1 dX9_works_415 rfl ?_
        refine x_iload_n 2 dX9_works_416 rfl ?_
        refine x_iload_n 3 dX9_works_417 rfl ?_
        have t512 : tg h501 x0 = 10 := by rw [e502]; exact g1
        obtain ⟨g513, g514, hq⟩ := hq
        refine x_callV (Yc := YX9_compares) (as := [.int x1, .int x2]) (st := []) q2961 mvX9_compares t512 rfl dX9_works_418 (xle (xal1 (rv_cat _) (xal1 rfl (xal1 rfl xal0))) (by decide)) (xfr g513) (xlo xsw0 (by decide) g514) (xKv hq (fun h515 hq e517 => ?_) (fun _ _ q _ => q))
        replace hq := hq e517
        refine x_goto (tgt := 429) dX9_works_421 (by decide) ?_
        refine xP.pick (lv' := []) [] rfl ?_
        exact uX9_works_429 hq
    · replace hq := hq.2 c504
      refine x_aload_n 1 dX9_works_380 rfl ?_
      refine x_iload_n 2 dX9_works_381 rfl ?_
      refine x_aload_n 1 dX9_works_382 rfl ?_
      have t518 : tg h501 x0 = 10 := by rw [e502]; exact g1
      refine x_get (v := rv (fR h501 x0 2309)) fdX9_35 dX9_works_383 t518 rfl ?_
      refine x_aload_n 1 dX9_works_386 rfl ?_
      refine x_get (v := .int (fI h501 x0 2310)) fdX9_86 dX9_works_387 t518 rfl ?_
      refine x_iconst (v := 1) dX9_works_390 (by decide) ?_
      refine x_isub dX9_works_391 ?_
      obtain ⟨g519, hq⟩ := hq
      obtain ⟨i520, hq⟩ := hq
      refine x_dald g519 i520 dX9_works_392 ?_
      refine x_aload_n 1 dX9_works_393 rfl ?_
      refine x_get (v := rv (fR h501 x0 2309)) fdX9_35 dX9_works_394 t518 rfl ?_
      refine x_aload_n 1 dX9_works_397 rfl ?_
      refine x_get (v := .int (fI h501 x0 2310)) fdX9_86 dX9_works_398 t518 rfl ?_
      obtain ⟨i521, hq⟩ := hq
      refine x_dald g519 i521 dX9_works_401 ?_
      refine x_iload_n 0 dX9_works_402 rfl ?_
      obtain ⟨g522, g523, hq⟩ := hq
      refine x_callV (Yc := YX9_ofFractions) (as := [.int x1, .double (aD h501 (fR h501 x0 2309) (Int32.toNatClampNeg ((fI h501 x0 2310) - 1))), .double (aD h501 (fR h501 x0 2309) (Int32.toNatClampNeg (fI h501 x0 2310))), .int (aI h (fR h (fR h x0 2304) 516) (Int32.toNatClampNeg x2))]) (st := []) q2952 mvX9_ofFractions t518 rfl dX9_works_403 (xle (xal1 (rv_cat _) (xal1 rfl (xal2 rfl (xal2 rfl (xal1 rfl xal0))))) (by decide)) (xfr g522) (xlo xsw0 (by decide) g523) (xKv hq (fun h524 hq e526 => ?_) (fun _ _ q _ => q))
      replace hq := hq e526
      refine x_goto (tgt := 429) dX9_works_406 (by decide) ?_
      refine xP.pick (lv' := []) [] rfl ?_
      exact uX9_works_429 hq
  · replace hq := hq.2 c503
    refine x_aload_n 1 dX9_works_345 rfl ?_
    refine x_iload_n 2 dX9_works_346 rfl ?_
    refine x_aload_n 1 dX9_works_347 rfl ?_
    have t527 : tg h501 x0 = 10 := by rw [e502]; exact g1
    refine x_get (v := rv (fR h501 x0 2307)) fdX9_28 dX9_works_348 t527 rfl ?_
    refine x_aload_n 1 dX9_works_351 rfl ?_
    refine x_get (v := .int (fI h501 x0 2310)) fdX9_86 dX9_works_352 t527 rfl ?_
    refine x_iconst (v := 1) dX9_works_355 (by decide) ?_
    refine x_isub dX9_works_356 ?_
    obtain ⟨g528, hq⟩ := hq
    obtain ⟨i529, hq⟩ := hq
    refine x_lald g528 i529 dX9_works_357 ?_
    refine x_aload_n 1 dX9_works_358 rfl ?_
    refine x_get (v := rv (fR h501 x0 2307)) fdX9_28 dX9_works_359 t527 rfl ?_
    refine x_aload_n 1 dX9_works_362 rfl ?_
    refine x_get (v := .int (fI h501 x0 2310)) fdX9_86 dX9_works_363 t527 rfl ?_
    obtain ⟨i530, hq⟩ := hq
    refine x_lald g528 i530 dX9_works_366 ?_
    refine x_iload_n 0 dX9_works_367 rfl ?_
    obtain ⟨g531, g532, hq⟩ := hq
    refine x_callV (Yc := YX9_ofWholes) (as := [.int x1, .long (aJ h501 (fR h501 x0 2307) (Int32.toNatClampNeg ((fI h501 x0 2310) - 1))), .long (aJ h501 (fR h501 x0 2307) (Int32.toNatClampNeg (fI h501 x0 2310))), .int (aI h (fR h (fR h x0 2304) 516) (Int32.toNatClampNeg x2))]) (st := []) q2942 mvX9_ofWholes t527 rfl dX9_works_368 (xle (xal1 (rv_cat _) (xal1 rfl (xal2 rfl (xal2 rfl (xal1 rfl xal0))))) (by decide)) (xfr g531) (xlo xsw0 (by decide) g532) (xKv hq (fun h533 hq e535 => ?_) (fun _ _ q _ => q))
    replace hq := hq e535
    refine x_goto (tgt := 429) dX9_works_371 (by decide) ?_
    refine xP.pick (lv' := []) [] rfl ?_
    exact uX9_works_429 hq
theorem rX9_works {G : xG} {fr lo : Nat} {x0 : Nat} {x1 : Int32} {x2 : Int32} {h : xH} {Q : Outcome → xH → Prop} (hq : bX9_works G fr lo x0 x1 x2 h Q) : xR G YX9_works fr lo [rv x0, .int x1, .int x2] h Q := by
  show xP _ _ _ _ _ (lv_args 0 _) _ _ _
  rw [show lv_args 0 [rv x0, .int x1, .int x2] = [(0, rv x0), (1, .int x1), (2, .int x2)] from (xla1 (rv_cat _) (xla1 rfl (xla1 rfl xla0)))]
  exact uX9_works hq
set_option maxRecDepth 100000 in
theorem dX9_spans_0 : decode cX9_spans 0 = .ok (.aload_n 0, 1) := by decide +kernel
set_option maxRecDepth 100000 in
theorem dX9_spans_1 : decode cX9_spans 1 = .ok (.dup, 1) := by decide +kernel
set_option maxRecDepth 100000 in
theorem dX9_spans_2 : decode cX9_spans 2 = .ok (.getfield 86, 3) := by decide +kernel
set_option maxRecDepth 100000 in
theorem dX9_spans_5 : decode cX9_spans 5 = .ok (.iconst 2, 1) := by decide +kernel
set_option maxRecDepth 100000 in
theorem dX9_spans_6 : decode cX9_spans 6 = .ok (.isub, 1) := by decide +kernel
set_option maxRecDepth 100000 in
theorem dX9_spans_7 : decode cX9_spans 7 = .ok (.putfield 86, 3) := by decide +kernel
set_option maxRecDepth 100000 in
theorem dX9_spans_10 : decode cX9_spans 10 = .ok (.aload_n 0, 1) := by decide +kernel
set_option maxRecDepth 100000 in
theorem dX9_spans_11 : decode cX9_spans 11 = .ok (.getfield 28, 3) := by decide +kernel
set_option maxRecDepth 100000 in
theorem dX9_spans_14 : decode cX9_spans 14 = .ok (.aload_n 0, 1) := by decide +kernel
set_option maxRecDepth 100000 in
theorem dX9_spans_15 : decode cX9_spans 15 = .ok (.getfield 86, 3) := by decide +kernel
set_option maxRecDepth 100000 in
theorem dX9_spans_18 : decode cX9_spans 18 = .ok (.laload, 1) := by decide +kernel
set_option maxRecDepth 100000 in
theorem dX9_spans_19 : decode cX9_spans 19 = .ok (.lstore_n 2, 1) := by decide +kernel
set_option maxRecDepth 100000 in
theorem dX9_spans_20 : decode cX9_spans 20 = .ok (.aload_n 0, 1) := by decide +kernel
set_option maxRecDepth 100000 in
theorem dX9_spans_21 : decode cX9_spans 21 = .ok (.getfield 28, 3) := by decide +kernel
set_option maxRecDepth 100000 in
theorem dX9_spans_24 : decode cX9_spans 24 = .ok (.aload_n 0, 1) := by decide +kernel
set_option maxRecDepth 100000 in
theorem dX9_spans_25 : decode cX9_spans 25 = .ok (.getfield 86, 3) := by decide +kernel
set_option maxRecDepth 100000 in
theorem dX9_spans_28 : decode cX9_spans 28 = .ok (.iconst 1, 1) := by decide +kernel
set_option maxRecDepth 100000 in
theorem dX9_spans_29 : decode cX9_spans 29 = .ok (.iadd, 1) := by decide +kernel
set_option maxRecDepth 100000 in
theorem dX9_spans_30 : decode cX9_spans 30 = .ok (.laload, 1) := by decide +kernel
set_option maxRecDepth 100000 in
theorem dX9_spans_31 : decode cX9_spans 31 = .ok (.lstore 4, 2) := by decide +kernel
set_option maxRecDepth 100000 in
theorem dX9_spans_33 : decode cX9_spans 33 = .ok (.lload_n 2, 1) := by decide +kernel
set_option maxRecDepth 100000 in
theorem dX9_spans_34 : decode cX9_spans 34 = .ok (.lload 4, 2) := by decide +kernel
set_option maxRecDepth 100000 in
theorem dX9_spans_36 : decode cX9_spans 36 = .ok (.lcmp, 1) := by decide +kernel
set_option maxRecDepth 100000 in
theorem dX9_spans_37 : decode cX9_spans 37 = .ok (.ifCond .le 4, 3) := by decide +kernel
set_option maxRecDepth 100000 in
theorem dX9_spans_40 : decode cX9_spans 40 = .ok (.return_, 1) := by decide +kernel
set_option maxRecDepth 100000 in
theorem dX9_spans_41 : decode cX9_spans 41 = .ok (.lload_n 2, 1) := by decide +kernel
set_option maxRecDepth 100000 in
theorem dX9_spans_42 : decode cX9_spans 42 = .ok (.lconst 0, 1) := by decide +kernel
set_option maxRecDepth 100000 in
theorem dX9_spans_43 : decode cX9_spans 43 = .ok (.lcmp, 1) := by decide +kernel
set_option maxRecDepth 100000 in
theorem dX9_spans_44 : decode cX9_spans 44 = .ok (.ifCond .lt 12, 3) := by decide +kernel
set_option maxRecDepth 100000 in
theorem dX9_spans_47 : decode cX9_spans 47 = .ok (.lload 4, 2) := by decide +kernel
set_option maxRecDepth 100000 in
theorem dX9_spans_49 : decode cX9_spans 49 = .ok (.ldc2_w 293, 3) := by decide +kernel
set_option maxRecDepth 100000 in
theorem dX9_spans_52 : decode cX9_spans 52 = .ok (.lcmp, 1) := by decide +kernel
set_option maxRecDepth 100000 in
theorem dX9_spans_53 : decode cX9_spans 53 = .ok (.ifCond .le 12, 3) := by decide +kernel
set_option maxRecDepth 100000 in
theorem dX9_spans_56 : decode cX9_spans 56 = .ok (.aload_n 0, 1) := by decide +kernel
set_option maxRecDepth 100000 in
theorem dX9_spans_57 : decode cX9_spans 57 = .ok (.iconst 1, 1) := by decide +kernel
set_option maxRecDepth 100000 in
theorem dX9_spans_58 : decode cX9_spans 58 = .ok (.iload_n 1, 1) := by decide +kernel
set_option maxRecDepth 100000 in
theorem dX9_spans_59 : decode cX9_spans 59 = .ok (.invokevirtual 147, 3) := by decide +kernel
set_option maxRecDepth 100000 in
theorem dX9_spans_62 : decode cX9_spans 62 = .ok (.goto 28, 3) := by decide +kernel
set_option maxRecDepth 100000 in
theorem dX9_spans_65 : decode cX9_spans 65 = .ok (.lload_n 2, 1) := by decide +kernel
set_option maxRecDepth 100000 in
theorem dX9_spans_66 : decode cX9_spans 66 = .ok (.l2i, 1) := by decide +kernel
set_option maxRecDepth 100000 in
theorem dX9_spans_67 : decode cX9_spans 67 = .ok (.istore 6, 2) := by decide +kernel
set_option maxRecDepth 100000 in
theorem dX9_spans_69 : decode cX9_spans 69 = .ok (.iload 6, 2) := by decide +kernel
set_option maxRecDepth 100000 in
theorem dX9_spans_71 : decode cX9_spans 71 = .ok (.i2l, 1) := by decide +kernel
set_option maxRecDepth 100000 in
theorem dX9_spans_72 : decode cX9_spans 72 = .ok (.lload 4, 2) := by decide +kernel
set_option maxRecDepth 100000 in
theorem dX9_spans_74 : decode cX9_spans 74 = .ok (.lcmp, 1) := by decide +kernel
set_option maxRecDepth 100000 in
theorem dX9_spans_75 : decode cX9_spans 75 = .ok (.ifCond .gt 15, 3) := by decide +kernel
set_option maxRecDepth 100000 in
theorem dX9_spans_78 : decode cX9_spans 78 = .ok (.aload_n 0, 1) := by decide +kernel
set_option maxRecDepth 100000 in
theorem dX9_spans_79 : decode cX9_spans 79 = .ok (.iload 6, 2) := by decide +kernel
set_option maxRecDepth 100000 in
theorem dX9_spans_81 : decode cX9_spans 81 = .ok (.invokevirtual 295, 3) := by decide +kernel
set_option maxRecDepth 100000 in
theorem dX9_spans_84 : decode cX9_spans 84 = .ok (.iinc 6 1, 3) := by decide +kernel
set_option maxRecDepth 100000 in
theorem dX9_spans_87 : decode cX9_spans 87 = .ok (.goto (-18), 3) := by decide +kernel
set_option maxRecDepth 100000 in
theorem dX9_spans_90 : decode cX9_spans 90 = .ok (.return_, 1) := by decide +kernel
def lX9_spans_69 (G : xG) (fr lo : Nat) (x0 : Nat) (x4 : Int64) (x6 : Int32) (h : xH) (Q : Outcome → xH → Prop) : Prop := xP G YX9_spans fr lo 69 [(0, rv x0), (4, .long x4), (6, .int x6)] [] h Q
set_option maxRecDepth 100000 in
def bX9_spans_90 (G : xG) (fr lo : Nat) (h : xH) (Q : Outcome → xH → Prop) : Prop := Q (.returned none) h
set_option maxRecDepth 100000 in
theorem uX9_spans_90 {G : xG} {fr lo : Nat} {h : xH} {Q : Outcome → xH → Prop} (hq : bX9_spans_90 G fr lo h Q) : xP G YX9_spans fr lo 90 [] [] h Q := by
  unfold bX9_spans_90 at hq
  exact x_vret rfl dX9_spans_90 hq
set_option maxRecDepth 100000 in
def bX9_spans_69 (G : xG) (fr lo : Nat) (x0 : Nat) (x4 : Int64) (x6 : Int32) (h : xH) (Q : Outcome → xH → Prop) : Prop := ((0 < (lg_cmp (Int32.toInt64 x6) x4) → bX9_spans_90 G fr lo h Q) ∧ (¬ 0 < (lg_cmp (Int32.toInt64 x6) x4) → tg h x0 = 10 ∧ 1 ≤ fr ∧ 13 ≤ lo ∧ xRv G YX9_puts (fr - 1) (lo - 13) [rv x0, .int x6] h (fun h5 => xext h h5 → lX9_spans_69 G fr lo x0 x4 (x6 + 1) h5 Q) (fun r h2 => Q (.threw r) h2)))
set_option maxRecDepth 100000 in
theorem uX9_spans_69 {G : xG} {fr lo : Nat} {x0 : Nat} {x4 : Int64} {x6 : Int32} {h : xH} {Q : Outcome → xH → Prop} (hq : bX9_spans_69 G fr lo x0 x4 x6 h Q) : xP G YX9_spans fr lo 69 [(0, rv x0), (4, .long x4), (6, .int x6)] [] h Q := by
  unfold bX9_spans_69 at hq
  refine x_iload 2 dX9_spans_69 rfl ?_
  refine x_i2l dX9_spans_71 ?_
  refine x_lload 1 dX9_spans_72 rfl ?_
  refine x_lcmp dX9_spans_74 ?_
  refine x_if_gt (tgt := 90) dX9_spans_75 (by decide) (fun c1 => ?_) (fun c1 => ?_)
  · replace hq := hq.1 c1
    refine xP.pick (lv' := []) [] rfl ?_
    exact uX9_spans_90 hq
  · replace hq := hq.2 c1
    refine x_aload_n 0 dX9_spans_78 rfl ?_
    refine x_iload 2 dX9_spans_79 rfl ?_
    obtain ⟨g2, hq⟩ := hq
    obtain ⟨g3, g4, hq⟩ := hq
    refine x_callV (Yc := YX9_puts) (as := [.int x6]) (st := []) q2938 mvX9_puts g2 rfl dX9_spans_81 (xle (xal1 (rv_cat _) (xal1 rfl xal0)) (by decide)) (xfr g3) (xlo xsw0 (by decide) g4) (xKv hq (fun h5 hq e7 => ?_) (fun _ _ q _ => q))
    replace hq := hq e7
    refine x_iinc (lv' := [(6, .int (x6 + 1)), (0, rv x0), (4, .long x4)]) 2 dX9_spans_84 rfl (by decide) rfl ?_
    refine x_goto (tgt := 69) dX9_spans_87 (by decide) ?_
    refine xP.pick (lv' := [(0, rv x0), (4, .long x4), (6, .int (x6 + 1))]) [1, 2, 0] rfl ?_
    exact hq
set_option maxRecDepth 100000 in
def bX9_spans_56 (G : xG) (fr lo : Nat) (x0 : Nat) (x1 : Int32) (h : xH) (Q : Outcome → xH → Prop) : Prop := tg h x0 = 10 ∧ 1 ≤ fr ∧ 14 ≤ lo ∧ xRv G YX9_fail (fr - 1) (lo - 14) [rv x0, .int 1, .int x1] h (fun h4 => xext h h4 → bX9_spans_90 G fr lo h4 Q) (fun r h2 => Q (.threw r) h2)
set_option maxRecDepth 100000 in
theorem uX9_spans_56 {G : xG} {fr lo : Nat} {x0 : Nat} {x1 : Int32} {h : xH} {Q : Outcome → xH → Prop} (hq : bX9_spans_56 G fr lo x0 x1 h Q) : xP G YX9_spans fr lo 56 [(0, rv x0), (1, .int x1)] [] h Q := by
  unfold bX9_spans_56 at hq
  refine x_aload_n 0 dX9_spans_56 rfl ?_
  refine x_iconst (v := 1) dX9_spans_57 (by decide) ?_
  refine x_iload_n 1 dX9_spans_58 rfl ?_
  obtain ⟨g1, hq⟩ := hq
  obtain ⟨g2, g3, hq⟩ := hq
  refine x_callV (Yc := YX9_fail) (as := [.int 1, .int x1]) (st := []) q2835 mvX9_fail g1 rfl dX9_spans_59 (xle (xal1 (rv_cat _) (xal1 rfl (xal1 rfl xal0))) (by decide)) (xfr g2) (xlo xsw0 (by decide) g3) (xKv hq (fun h4 hq e6 => ?_) (fun _ _ q _ => q))
  replace hq := hq e6
  refine x_goto (tgt := 90) dX9_spans_62 (by decide) ?_
  refine xP.pick (lv' := []) [] rfl ?_
  exact uX9_spans_90 hq
set_option maxRecDepth 100000 in
def bX9_spans (G : xG) (fr lo : Nat) (x0 : Nat) (x1 : Int32) (h : xH) (Q : Outcome → xH → Prop) : Prop := tg h x0 = 10 ∧ (∀ h2 : xH, h2 = sI h x0 2310 ((fI h x0 2310) - 2) → tg h2 (fR h2 x0 2307) = 101 ∧ vp_in (fI h2 x0 2310) (ln h2 (fR h2 x0 2307)) ∧ vp_in ((fI h2 x0 2310) + 1) (ln h2 (fR h2 x0 2307)) ∧ (((lg_cmp (aJ h2 (fR h2 x0 2307) (Int32.toNatClampNeg (fI h2 x0 2310))) (aJ h2 (fR h2 x0 2307) (Int32.toNatClampNeg ((fI h2 x0 2310) + 1)))) ≤ 0 → (((lg_cmp (aJ h2 (fR h2 x0 2307) (Int32.toNatClampNeg (fI h2 x0 2310))) 0) < 0 → bX9_spans_56 G fr lo x0 x1 h2 Q) ∧ (¬ (lg_cmp (aJ h2 (fR h2 x0 2307) (Int32.toNatClampNeg (fI h2 x0 2310))) 0) < 0 → (((lg_cmp (aJ h2 (fR h2 x0 2307) (Int32.toNatClampNeg ((fI h2 x0 2310) + 1))) 127) ≤ 0 → lX9_spans_69 G fr lo x0 (aJ h2 (fR h2 x0 2307) (Int32.toNatClampNeg ((fI h2 x0 2310) + 1))) (Int64.toInt32 (aJ h2 (fR h2 x0 2307) (Int32.toNatClampNeg (fI h2 x0 2310)))) h2 Q) ∧ (¬ (lg_cmp (aJ h2 (fR h2 x0 2307) (Int32.toNatClampNeg ((fI h2 x0 2310) + 1))) 127) ≤ 0 → bX9_spans_56 G fr lo x0 x1 h2 Q))))) ∧ (¬ (lg_cmp (aJ h2 (fR h2 x0 2307) (Int32.toNatClampNeg (fI h2 x0 2310))) (aJ h2 (fR h2 x0 2307) (Int32.toNatClampNeg ((fI h2 x0 2310) + 1)))) ≤ 0 → Q (.returned none) h2)))
set_option maxRecDepth 100000 in
theorem uX9_spans {G : xG} {fr lo : Nat} {x0 : Nat} {x1 : Int32} {h : xH} {Q : Outcome → xH → Prop} (hq : bX9_spans G fr lo x0 x1 h Q) : xP G YX9_spans fr lo 0 [(0, rv x0), (1, .int x1)] [] h Q := by
  unfold bX9_spans at hq
  refine x_aload_n 0 dX9_spans_0 rfl ?_
  refine x_dup dX9_spans_1 (rv_cat _) ?_
  obtain ⟨g1, hq⟩ := hq
  refine x_get (v := .int (fI h x0 2310)) fdX9_86 dX9_spans_2 g1 rfl ?_
  refine x_iconst (v := 2) dX9_spans_5 (by decide) ?_
  refine x_isub dX9_spans_6 ?_
  obtain ⟨h2, e3⟩ : ∃ y, y = sI h x0 2310 ((fI h x0 2310) - 2) := ⟨_, rfl⟩
  replace hq := hq h2 e3
  refine x_putI fdX9_86 xty_I1 dX9_spans_7 g1 (Or.inl (by rw [g1]; rfl)) xnI rfl e3 ?_
  refine x_aload_n 0 dX9_spans_10 rfl ?_
  have t4 : tg h2 x0 = 10 := by rw [e3]; exact g1
  refine x_get (v := rv (fR h2 x0 2307)) fdX9_28 dX9_spans_11 t4 rfl ?_
  refine x_aload_n 0 dX9_spans_14 rfl ?_
  refine x_get (v := .int (fI h2 x0 2310)) fdX9_86 dX9_spans_15 t4 rfl ?_
  obtain ⟨g5, hq⟩ := hq
  obtain ⟨i6, hq⟩ := hq
  refine x_lald g5 i6 dX9_spans_18 ?_
  refine x_lstore_n (lv' := [(2, .long (aJ h2 (fR h2 x0 2307) (Int32.toNatClampNeg (fI h2 x0 2310)))), (0, rv x0), (1, .int x1)]) dX9_spans_19 (by decide) rfl ?_
  refine x_aload_n 1 dX9_spans_20 rfl ?_
  refine x_get (v := rv (fR h2 x0 2307)) fdX9_28 dX9_spans_21 t4 rfl ?_
  refine x_aload_n 1 dX9_spans_24 rfl ?_
  refine x_get (v := .int (fI h2 x0 2310)) fdX9_86 dX9_spans_25 t4 rfl ?_
  refine x_iconst (v := 1) dX9_spans_28 (by decide) ?_
  refine x_iadd dX9_spans_29 ?_
  obtain ⟨i7, hq⟩ := hq
  refine x_lald g5 i7 dX9_spans_30 ?_
  refine x_lstore (lv' := [(4, .long (aJ h2 (fR h2 x0 2307) (Int32.toNatClampNeg ((fI h2 x0 2310) + 1)))), (2, .long (aJ h2 (fR h2 x0 2307) (Int32.toNatClampNeg (fI h2 x0 2310)))), (0, rv x0), (1, .int x1)]) dX9_spans_31 (by decide) rfl ?_
  refine x_lload_n 1 dX9_spans_33 rfl ?_
  refine x_lload 0 dX9_spans_34 rfl ?_
  refine x_lcmp dX9_spans_36 ?_
  refine x_if_le (tgt := 41) dX9_spans_37 (by decide) (fun c8 => ?_) (fun c8 => ?_)
  · replace hq := hq.1 c8
    refine x_lload_n 1 dX9_spans_41 rfl ?_
    refine x_lconst (v := 0) dX9_spans_42 (by decide) ?_
    refine x_lcmp dX9_spans_43 ?_
    refine x_if_lt (tgt := 56) dX9_spans_44 (by decide) (fun c9 => ?_) (fun c9 => ?_)
    · replace hq := hq.1 c9
      refine xP.pick (lv' := [(0, rv x0), (1, .int x1)]) [2, 3] rfl ?_
      exact uX9_spans_56 hq
    · replace hq := hq.2 c9
      refine x_lload 0 dX9_spans_47 rfl ?_
      refine x_ldc2 (v := 127) q2937 dX9_spans_49 ?_
      refine x_lcmp dX9_spans_52 ?_
      refine x_if_le (tgt := 65) dX9_spans_53 (by decide) (fun c10 => ?_) (fun c10 => ?_)
      · replace hq := hq.1 c10
        refine x_lload_n 1 dX9_spans_65 rfl ?_
        refine x_l2i dX9_spans_66 ?_
        refine x_istore (lv' := [(6, .int (Int64.toInt32 (aJ h2 (fR h2 x0 2307) (Int32.toNatClampNeg (fI h2 x0 2310))))), (4, .long (aJ h2 (fR h2 x0 2307) (Int32.toNatClampNeg ((fI h2 x0 2310) + 1)))), (2, .long (aJ h2 (fR h2 x0 2307) (Int32.toNatClampNeg (fI h2 x0 2310)))), (0, rv x0), (1, .int x1)]) dX9_spans_67 (by decide) rfl ?_
        refine xP.pick (lv' := [(0, rv x0), (4, .long (aJ h2 (fR h2 x0 2307) (Int32.toNatClampNeg ((fI h2 x0 2310) + 1)))), (6, .int (Int64.toInt32 (aJ h2 (fR h2 x0 2307) (Int32.toNatClampNeg (fI h2 x0 2310)))))]) [3, 1, 0] rfl ?_
        exact hq
      · replace hq := hq.2 c10
        refine xP.pick (lv' := [(0, rv x0), (1, .int x1)]) [2, 3] rfl ?_
        exact uX9_spans_56 hq
  · replace hq := hq.2 c8
    exact x_vret rfl dX9_spans_40 hq
theorem rX9_spans {G : xG} {fr lo : Nat} {x0 : Nat} {x1 : Int32} {h : xH} {Q : Outcome → xH → Prop} (hq : bX9_spans G fr lo x0 x1 h Q) : xR G YX9_spans fr lo [rv x0, .int x1] h Q := by
  show xP _ _ _ _ _ (lv_args 0 _) _ _ _
  rw [show lv_args 0 [rv x0, .int x1] = [(0, rv x0), (1, .int x1)] from (xla1 (rv_cat _) (xla1 rfl xla0))]
  exact uX9_spans hq
set_option maxRecDepth 100000 in
theorem dX9_puts_0 : decode cX9_puts 0 = .ok (.iload_n 1, 1) := by decide +kernel
set_option maxRecDepth 100000 in
theorem dX9_puts_1 : decode cX9_puts 1 = .ok (.bipush 64, 2) := by decide +kernel
set_option maxRecDepth 100000 in
theorem dX9_puts_3 : decode cX9_puts 3 = .ok (.if_icmp .ge 23, 3) := by decide +kernel
set_option maxRecDepth 100000 in
theorem dX9_puts_6 : decode cX9_puts 6 = .ok (.aload_n 0, 1) := by decide +kernel
set_option maxRecDepth 100000 in
theorem dX9_puts_7 : decode cX9_puts 7 = .ok (.getfield 28, 3) := by decide +kernel
set_option maxRecDepth 100000 in
theorem dX9_puts_10 : decode cX9_puts 10 = .ok (.aload_n 0, 1) := by decide +kernel
set_option maxRecDepth 100000 in
theorem dX9_puts_11 : decode cX9_puts 11 = .ok (.getfield 86, 3) := by decide +kernel
set_option maxRecDepth 100000 in
theorem dX9_puts_14 : decode cX9_puts 14 = .ok (.iconst 1, 1) := by decide +kernel
set_option maxRecDepth 100000 in
theorem dX9_puts_15 : decode cX9_puts 15 = .ok (.isub, 1) := by decide +kernel
set_option maxRecDepth 100000 in
theorem dX9_puts_16 : decode cX9_puts 16 = .ok (.dup2, 1) := by decide +kernel
set_option maxRecDepth 100000 in
theorem dX9_puts_17 : decode cX9_puts 17 = .ok (.laload, 1) := by decide +kernel
set_option maxRecDepth 100000 in
theorem dX9_puts_18 : decode cX9_puts 18 = .ok (.lconst 1, 1) := by decide +kernel
set_option maxRecDepth 100000 in
theorem dX9_puts_19 : decode cX9_puts 19 = .ok (.iload_n 1, 1) := by decide +kernel
set_option maxRecDepth 100000 in
theorem dX9_puts_20 : decode cX9_puts 20 = .ok (.lshl, 1) := by decide +kernel
set_option maxRecDepth 100000 in
theorem dX9_puts_21 : decode cX9_puts 21 = .ok (.lor, 1) := by decide +kernel
set_option maxRecDepth 100000 in
theorem dX9_puts_22 : decode cX9_puts 22 = .ok (.lastore, 1) := by decide +kernel
set_option maxRecDepth 100000 in
theorem dX9_puts_23 : decode cX9_puts 23 = .ok (.goto 23, 3) := by decide +kernel
set_option maxRecDepth 100000 in
theorem dX9_puts_26 : decode cX9_puts 26 = .ok (.aload_n 0, 1) := by decide +kernel
set_option maxRecDepth 100000 in
theorem dX9_puts_27 : decode cX9_puts 27 = .ok (.getfield 32, 3) := by decide +kernel
set_option maxRecDepth 100000 in
theorem dX9_puts_30 : decode cX9_puts 30 = .ok (.aload_n 0, 1) := by decide +kernel
set_option maxRecDepth 100000 in
theorem dX9_puts_31 : decode cX9_puts 31 = .ok (.getfield 86, 3) := by decide +kernel
set_option maxRecDepth 100000 in
theorem dX9_puts_34 : decode cX9_puts 34 = .ok (.iconst 1, 1) := by decide +kernel
set_option maxRecDepth 100000 in
theorem dX9_puts_35 : decode cX9_puts 35 = .ok (.isub, 1) := by decide +kernel
set_option maxRecDepth 100000 in
theorem dX9_puts_36 : decode cX9_puts 36 = .ok (.dup2, 1) := by decide +kernel
set_option maxRecDepth 100000 in
theorem dX9_puts_37 : decode cX9_puts 37 = .ok (.laload, 1) := by decide +kernel
set_option maxRecDepth 100000 in
theorem dX9_puts_38 : decode cX9_puts 38 = .ok (.lconst 1, 1) := by decide +kernel
set_option maxRecDepth 100000 in
theorem dX9_puts_39 : decode cX9_puts 39 = .ok (.iload_n 1, 1) := by decide +kernel
set_option maxRecDepth 100000 in
theorem dX9_puts_40 : decode cX9_puts 40 = .ok (.bipush 64, 2) := by decide +kernel
set_option maxRecDepth 100000 in
theorem dX9_puts_42 : decode cX9_puts 42 = .ok (.isub, 1) := by decide +kernel
set_option maxRecDepth 100000 in
theorem dX9_puts_43 : decode cX9_puts 43 = .ok (.lshl, 1) := by decide +kernel
set_option maxRecDepth 100000 in
theorem dX9_puts_44 : decode cX9_puts 44 = .ok (.lor, 1) := by decide +kernel
set_option maxRecDepth 100000 in
theorem dX9_puts_45 : decode cX9_puts 45 = .ok (.lastore, 1) := by decide +kernel
set_option maxRecDepth 100000 in
theorem dX9_puts_46 : decode cX9_puts 46 = .ok (.return_, 1) := by decide +kernel
set_option maxRecDepth 100000 in
def bX9_puts_46 (G : xG) (fr lo : Nat) (h : xH) (Q : Outcome → xH → Prop) : Prop := Q (.returned none) h
set_option maxRecDepth 100000 in
theorem uX9_puts_46 {G : xG} {fr lo : Nat} {h : xH} {Q : Outcome → xH → Prop} (hq : bX9_puts_46 G fr lo h Q) : xP G YX9_puts fr lo 46 [] [] h Q := by
  unfold bX9_puts_46 at hq
  exact x_vret rfl dX9_puts_46 hq
set_option maxRecDepth 100000 in
def bX9_puts (G : xG) (fr lo : Nat) (x0 : Nat) (x1 : Int32) (h : xH) (Q : Outcome → xH → Prop) : Prop := ((64 ≤ x1 → tg h x0 = 10 ∧ tg h (fR h x0 2308) = 101 ∧ vp_in ((fI h x0 2310) - 1) (ln h (fR h x0 2308)) ∧ vp_in ((fI h x0 2310) - 1) (ln h (fR h x0 2308)) ∧ (∀ h6 : xH, h6 = tJ h (fR h x0 2308) (Int32.toNatClampNeg ((fI h x0 2310) - 1)) ((aJ h (fR h x0 2308) (Int32.toNatClampNeg ((fI h x0 2310) - 1))) ||| (1 <<< (Int32.toInt64 (x1 - 64) &&& 63))) → bX9_puts_46 G fr lo h6 Q)) ∧ (¬ 64 ≤ x1 → tg h x0 = 10 ∧ tg h (fR h x0 2307) = 101 ∧ vp_in ((fI h x0 2310) - 1) (ln h (fR h x0 2307)) ∧ vp_in ((fI h x0 2310) - 1) (ln h (fR h x0 2307)) ∧ (∀ h12 : xH, h12 = tJ h (fR h x0 2307) (Int32.toNatClampNeg ((fI h x0 2310) - 1)) ((aJ h (fR h x0 2307) (Int32.toNatClampNeg ((fI h x0 2310) - 1))) ||| (1 <<< (Int32.toInt64 x1 &&& 63))) → bX9_puts_46 G fr lo h12 Q)))
set_option maxRecDepth 100000 in
theorem uX9_puts {G : xG} {fr lo : Nat} {x0 : Nat} {x1 : Int32} {h : xH} {Q : Outcome → xH → Prop} (hq : bX9_puts G fr lo x0 x1 h Q) : xP G YX9_puts fr lo 0 [(0, rv x0), (1, .int x1)] [] h Q := by
  unfold bX9_puts at hq
  refine x_iload_n 1 dX9_puts_0 rfl ?_
  refine x_bipush (v := 64) dX9_puts_1 (by decide) ?_
  refine x_icmp_ge (tgt := 26) dX9_puts_3 (by decide) (fun c1 => ?_) (fun c1 => ?_)
  · replace hq := hq.1 c1
    refine x_aload_n 0 dX9_puts_26 rfl ?_
    obtain ⟨g2, hq⟩ := hq
    refine x_get (v := rv (fR h x0 2308)) fdX9_32 dX9_puts_27 g2 rfl ?_
    refine x_aload_n 0 dX9_puts_30 rfl ?_
    refine x_get (v := .int (fI h x0 2310)) fdX9_86 dX9_puts_31 g2 rfl ?_
    refine x_iconst (v := 1) dX9_puts_34 (by decide) ?_
    refine x_isub dX9_puts_35 ?_
    refine x_dup2 dX9_puts_36 rfl (rv_cat _) ?_
    obtain ⟨g3, hq⟩ := hq
    obtain ⟨i4, hq⟩ := hq
    refine x_lald g3 i4 dX9_puts_37 ?_
    refine x_lconst (v := 1) dX9_puts_38 (by decide) ?_
    refine x_iload_n 1 dX9_puts_39 rfl ?_
    refine x_bipush (v := 64) dX9_puts_40 (by decide) ?_
    refine x_isub dX9_puts_42 ?_
    refine x_lshl dX9_puts_43 ?_
    refine x_lor dX9_puts_44 ?_
    obtain ⟨i5, hq⟩ := hq
    obtain ⟨h6, e7⟩ : ∃ y, y = tJ h (fR h x0 2308) (Int32.toNatClampNeg ((fI h x0 2310) - 1)) ((aJ h (fR h x0 2308) (Int32.toNatClampNeg ((fI h x0 2310) - 1))) ||| (1 <<< (Int32.toInt64 (x1 - 64) &&& 63))) := ⟨_, rfl⟩
    replace hq := hq h6 e7
    refine x_last' g3 i5 dX9_puts_45 e7 ?_
    refine xP.pick (lv' := []) [] rfl ?_
    exact uX9_puts_46 hq
  · replace hq := hq.2 c1
    refine x_aload_n 0 dX9_puts_6 rfl ?_
    obtain ⟨g8, hq⟩ := hq
    refine x_get (v := rv (fR h x0 2307)) fdX9_28 dX9_puts_7 g8 rfl ?_
    refine x_aload_n 0 dX9_puts_10 rfl ?_
    refine x_get (v := .int (fI h x0 2310)) fdX9_86 dX9_puts_11 g8 rfl ?_
    refine x_iconst (v := 1) dX9_puts_14 (by decide) ?_
    refine x_isub dX9_puts_15 ?_
    refine x_dup2 dX9_puts_16 rfl (rv_cat _) ?_
    obtain ⟨g9, hq⟩ := hq
    obtain ⟨i10, hq⟩ := hq
    refine x_lald g9 i10 dX9_puts_17 ?_
    refine x_lconst (v := 1) dX9_puts_18 (by decide) ?_
    refine x_iload_n 1 dX9_puts_19 rfl ?_
    refine x_lshl dX9_puts_20 ?_
    refine x_lor dX9_puts_21 ?_
    obtain ⟨i11, hq⟩ := hq
    obtain ⟨h12, e13⟩ : ∃ y, y = tJ h (fR h x0 2307) (Int32.toNatClampNeg ((fI h x0 2310) - 1)) ((aJ h (fR h x0 2307) (Int32.toNatClampNeg ((fI h x0 2310) - 1))) ||| (1 <<< (Int32.toInt64 x1 &&& 63))) := ⟨_, rfl⟩
    replace hq := hq h12 e13
    refine x_last' g9 i11 dX9_puts_22 e13 ?_
    refine x_goto (tgt := 46) dX9_puts_23 (by decide) ?_
    refine xP.pick (lv' := []) [] rfl ?_
    exact uX9_puts_46 hq
theorem rX9_puts {G : xG} {fr lo : Nat} {x0 : Nat} {x1 : Int32} {h : xH} {Q : Outcome → xH → Prop} (hq : bX9_puts G fr lo x0 x1 h Q) : xR G YX9_puts fr lo [rv x0, .int x1] h Q := by
  show xP _ _ _ _ _ (lv_args 0 _) _ _ _
  rw [show lv_args 0 [rv x0, .int x1] = [(0, rv x0), (1, .int x1)] from (xla1 (rv_cat _) (xla1 rfl xla0))]
  exact uX9_puts hq
set_option maxRecDepth 100000 in
theorem dX9_ofWholes_0 : decode cX9_ofWholes 0 = .ok (.iload_n 1, 1) := by decide +kernel
set_option maxRecDepth 100000 in
theorem dX9_ofWholes_1 : decode cX9_ofWholes 1 = .ok (.tableswitch 101 20 23 #[31, 44, 57, 70], 31) := by decide +kernel
set_option maxRecDepth 100000 in
theorem dX9_ofWholes_32 : decode cX9_ofWholes 32 = .ok (.aload_n 0, 1) := by decide +kernel
set_option maxRecDepth 100000 in
theorem dX9_ofWholes_33 : decode cX9_ofWholes 33 = .ok (.lload_n 2, 1) := by decide +kernel
set_option maxRecDepth 100000 in
theorem dX9_ofWholes_34 : decode cX9_ofWholes 34 = .ok (.lload 4, 2) := by decide +kernel
set_option maxRecDepth 100000 in
theorem dX9_ofWholes_36 : decode cX9_ofWholes 36 = .ok (.ladd, 1) := by decide +kernel
set_option maxRecDepth 100000 in
theorem dX9_ofWholes_37 : decode cX9_ofWholes 37 = .ok (.iload 6, 2) := by decide +kernel
set_option maxRecDepth 100000 in
theorem dX9_ofWholes_39 : decode cX9_ofWholes 39 = .ok (.invokevirtual 312, 3) := by decide +kernel
set_option maxRecDepth 100000 in
theorem dX9_ofWholes_42 : decode cX9_ofWholes 42 = .ok (.goto 94, 3) := by decide +kernel
set_option maxRecDepth 100000 in
theorem dX9_ofWholes_45 : decode cX9_ofWholes 45 = .ok (.aload_n 0, 1) := by decide +kernel
set_option maxRecDepth 100000 in
theorem dX9_ofWholes_46 : decode cX9_ofWholes 46 = .ok (.lload_n 2, 1) := by decide +kernel
set_option maxRecDepth 100000 in
theorem dX9_ofWholes_47 : decode cX9_ofWholes 47 = .ok (.lload 4, 2) := by decide +kernel
set_option maxRecDepth 100000 in
theorem dX9_ofWholes_49 : decode cX9_ofWholes 49 = .ok (.lsub, 1) := by decide +kernel
set_option maxRecDepth 100000 in
theorem dX9_ofWholes_50 : decode cX9_ofWholes 50 = .ok (.iload 6, 2) := by decide +kernel
set_option maxRecDepth 100000 in
theorem dX9_ofWholes_52 : decode cX9_ofWholes 52 = .ok (.invokevirtual 312, 3) := by decide +kernel
set_option maxRecDepth 100000 in
theorem dX9_ofWholes_55 : decode cX9_ofWholes 55 = .ok (.goto 81, 3) := by decide +kernel
set_option maxRecDepth 100000 in
theorem dX9_ofWholes_58 : decode cX9_ofWholes 58 = .ok (.aload_n 0, 1) := by decide +kernel
set_option maxRecDepth 100000 in
theorem dX9_ofWholes_59 : decode cX9_ofWholes 59 = .ok (.lload_n 2, 1) := by decide +kernel
set_option maxRecDepth 100000 in
theorem dX9_ofWholes_60 : decode cX9_ofWholes 60 = .ok (.lload 4, 2) := by decide +kernel
set_option maxRecDepth 100000 in
theorem dX9_ofWholes_62 : decode cX9_ofWholes 62 = .ok (.lmul, 1) := by decide +kernel
set_option maxRecDepth 100000 in
theorem dX9_ofWholes_63 : decode cX9_ofWholes 63 = .ok (.iload 6, 2) := by decide +kernel
set_option maxRecDepth 100000 in
theorem dX9_ofWholes_65 : decode cX9_ofWholes 65 = .ok (.invokevirtual 312, 3) := by decide +kernel
set_option maxRecDepth 100000 in
theorem dX9_ofWholes_68 : decode cX9_ofWholes 68 = .ok (.goto 68, 3) := by decide +kernel
set_option maxRecDepth 100000 in
theorem dX9_ofWholes_71 : decode cX9_ofWholes 71 = .ok (.lload 4, 2) := by decide +kernel
set_option maxRecDepth 100000 in
theorem dX9_ofWholes_73 : decode cX9_ofWholes 73 = .ok (.lconst 0, 1) := by decide +kernel
set_option maxRecDepth 100000 in
theorem dX9_ofWholes_74 : decode cX9_ofWholes 74 = .ok (.lcmp, 1) := by decide +kernel
set_option maxRecDepth 100000 in
theorem dX9_ofWholes_75 : decode cX9_ofWholes 75 = .ok (.ifCond .ne 14, 3) := by decide +kernel
set_option maxRecDepth 100000 in
theorem dX9_ofWholes_78 : decode cX9_ofWholes 78 = .ok (.aload_n 0, 1) := by decide +kernel
set_option maxRecDepth 100000 in
theorem dX9_ofWholes_79 : decode cX9_ofWholes 79 = .ok (.bipush 9, 2) := by decide +kernel
set_option maxRecDepth 100000 in
theorem dX9_ofWholes_81 : decode cX9_ofWholes 81 = .ok (.iload 6, 2) := by decide +kernel
set_option maxRecDepth 100000 in
theorem dX9_ofWholes_83 : decode cX9_ofWholes 83 = .ok (.invokevirtual 147, 3) := by decide +kernel
set_option maxRecDepth 100000 in
theorem dX9_ofWholes_86 : decode cX9_ofWholes 86 = .ok (.goto 50, 3) := by decide +kernel
set_option maxRecDepth 100000 in
theorem dX9_ofWholes_89 : decode cX9_ofWholes 89 = .ok (.aload_n 0, 1) := by decide +kernel
set_option maxRecDepth 100000 in
theorem dX9_ofWholes_90 : decode cX9_ofWholes 90 = .ok (.lload_n 2, 1) := by decide +kernel
set_option maxRecDepth 100000 in
theorem dX9_ofWholes_91 : decode cX9_ofWholes 91 = .ok (.lload 4, 2) := by decide +kernel
set_option maxRecDepth 100000 in
theorem dX9_ofWholes_93 : decode cX9_ofWholes 93 = .ok (.ldiv, 1) := by decide +kernel
set_option maxRecDepth 100000 in
theorem dX9_ofWholes_94 : decode cX9_ofWholes 94 = .ok (.iload 6, 2) := by decide +kernel
set_option maxRecDepth 100000 in
theorem dX9_ofWholes_96 : decode cX9_ofWholes 96 = .ok (.invokevirtual 312, 3) := by decide +kernel
set_option maxRecDepth 100000 in
theorem dX9_ofWholes_99 : decode cX9_ofWholes 99 = .ok (.goto 37, 3) := by decide +kernel
set_option maxRecDepth 100000 in
theorem dX9_ofWholes_102 : decode cX9_ofWholes 102 = .ok (.lload 4, 2) := by decide +kernel
set_option maxRecDepth 100000 in
theorem dX9_ofWholes_104 : decode cX9_ofWholes 104 = .ok (.lconst 0, 1) := by decide +kernel
set_option maxRecDepth 100000 in
theorem dX9_ofWholes_105 : decode cX9_ofWholes 105 = .ok (.lcmp, 1) := by decide +kernel
set_option maxRecDepth 100000 in
theorem dX9_ofWholes_106 : decode cX9_ofWholes 106 = .ok (.ifCond .gt 14, 3) := by decide +kernel
set_option maxRecDepth 100000 in
theorem dX9_ofWholes_109 : decode cX9_ofWholes 109 = .ok (.aload_n 0, 1) := by decide +kernel
set_option maxRecDepth 100000 in
theorem dX9_ofWholes_110 : decode cX9_ofWholes 110 = .ok (.bipush 9, 2) := by decide +kernel
set_option maxRecDepth 100000 in
theorem dX9_ofWholes_112 : decode cX9_ofWholes 112 = .ok (.iload 6, 2) := by decide +kernel
set_option maxRecDepth 100000 in
theorem dX9_ofWholes_114 : decode cX9_ofWholes 114 = .ok (.invokevirtual 147, 3) := by decide +kernel
set_option maxRecDepth 100000 in
theorem dX9_ofWholes_117 : decode cX9_ofWholes 117 = .ok (.goto 19, 3) := by decide +kernel
set_option maxRecDepth 100000 in
theorem dX9_ofWholes_120 : decode cX9_ofWholes 120 = .ok (.aload_n 0, 1) := by decide +kernel
set_option maxRecDepth 100000 in
theorem dX9_ofWholes_121 : decode cX9_ofWholes 121 = .ok (.lload_n 2, 1) := by decide +kernel
set_option maxRecDepth 100000 in
theorem dX9_ofWholes_122 : decode cX9_ofWholes 122 = .ok (.lload 4, 2) := by decide +kernel
set_option maxRecDepth 100000 in
theorem dX9_ofWholes_124 : decode cX9_ofWholes 124 = .ok (.lrem, 1) := by decide +kernel
set_option maxRecDepth 100000 in
theorem dX9_ofWholes_125 : decode cX9_ofWholes 125 = .ok (.lload 4, 2) := by decide +kernel
set_option maxRecDepth 100000 in
theorem dX9_ofWholes_127 : decode cX9_ofWholes 127 = .ok (.ladd, 1) := by decide +kernel
set_option maxRecDepth 100000 in
theorem dX9_ofWholes_128 : decode cX9_ofWholes 128 = .ok (.lload 4, 2) := by decide +kernel
set_option maxRecDepth 100000 in
theorem dX9_ofWholes_130 : decode cX9_ofWholes 130 = .ok (.lrem, 1) := by decide +kernel
set_option maxRecDepth 100000 in
theorem dX9_ofWholes_131 : decode cX9_ofWholes 131 = .ok (.iload 6, 2) := by decide +kernel
set_option maxRecDepth 100000 in
theorem dX9_ofWholes_133 : decode cX9_ofWholes 133 = .ok (.invokevirtual 312, 3) := by decide +kernel
set_option maxRecDepth 100000 in
theorem dX9_ofWholes_136 : decode cX9_ofWholes 136 = .ok (.return_, 1) := by decide +kernel
set_option maxRecDepth 100000 in
def bX9_ofWholes_136 (G : xG) (fr lo : Nat) (h : xH) (Q : Outcome → xH → Prop) : Prop := Q (.returned none) h
set_option maxRecDepth 100000 in
theorem uX9_ofWholes_136 {G : xG} {fr lo : Nat} {h : xH} {Q : Outcome → xH → Prop} (hq : bX9_ofWholes_136 G fr lo h Q) : xP G YX9_ofWholes fr lo 136 [] [] h Q := by
  unfold bX9_ofWholes_136 at hq
  exact x_vret rfl dX9_ofWholes_136 hq
set_option maxRecDepth 100000 in
def bX9_ofWholes (G : xG) (fr lo : Nat) (x0 : Nat) (x1 : Int32) (x2 : Int64) (x4 : Int64) (x6 : Int32) (h : xH) (Q : Outcome → xH → Prop) : Prop := ((x1 = 20 → tg h x0 = 10 ∧ 1 ≤ fr ∧ 15 ≤ lo ∧ xRv G YX9_whole (fr - 1) (lo - 15) [rv x0, .long (x2 + x4), .int x6] h (fun h5 => xext h h5 → bX9_ofWholes_136 G fr lo h5 Q) (fun r h2 => Q (.threw r) h2)) ∧ (x1 = 21 → tg h x0 = 10 ∧ 1 ≤ fr ∧ 15 ≤ lo ∧ xRv G YX9_whole (fr - 1) (lo - 15) [rv x0, .long (x2 - x4), .int x6] h (fun h12 => xext h h12 → bX9_ofWholes_136 G fr lo h12 Q) (fun r h2 => Q (.threw r) h2)) ∧ (x1 = 22 → tg h x0 = 10 ∧ 1 ≤ fr ∧ 15 ≤ lo ∧ xRv G YX9_whole (fr - 1) (lo - 15) [rv x0, .long (x2 * x4), .int x6] h (fun h19 => xext h h19 → bX9_ofWholes_136 G fr lo h19 Q) (fun r h2 => Q (.threw r) h2)) ∧ (x1 = 23 → ((¬ (lg_cmp x4 0) = 0 → ¬ x4 = 0 ∧ tg h x0 = 10 ∧ 1 ≤ fr ∧ 15 ≤ lo ∧ xRv G YX9_whole (fr - 1) (lo - 15) [rv x0, .long (x2 / x4), .int x6] h (fun h28 => xext h h28 → bX9_ofWholes_136 G fr lo h28 Q) (fun r h2 => Q (.threw r) h2)) ∧ ((lg_cmp x4 0) = 0 → tg h x0 = 10 ∧ 1 ≤ fr ∧ 14 ≤ lo ∧ xRv G YX9_fail (fr - 1) (lo - 14) [rv x0, .int 9, .int x6] h (fun h34 => xext h h34 → bX9_ofWholes_136 G fr lo h34 Q) (fun r h2 => Q (.threw r) h2)))) ∧ (¬ x1 = 20 → ¬ x1 = 21 → ¬ x1 = 22 → ¬ x1 = 23 → ((0 < (lg_cmp x4 0) → ¬ x4 = 0 ∧ ¬ x4 = 0 ∧ tg h x0 = 10 ∧ 1 ≤ fr ∧ 15 ≤ lo ∧ xRv G YX9_whole (fr - 1) (lo - 15) [rv x0, .long (((x2 - x2 / x4 * x4) + x4) - ((x2 - x2 / x4 * x4) + x4) / x4 * x4), .int x6] h (fun h43 => xext h h43 → bX9_ofWholes_136 G fr lo h43 Q) (fun r h2 => Q (.threw r) h2)) ∧ (¬ 0 < (lg_cmp x4 0) → tg h x0 = 10 ∧ 1 ≤ fr ∧ 14 ≤ lo ∧ xRv G YX9_fail (fr - 1) (lo - 14) [rv x0, .int 9, .int x6] h (fun h49 => xext h h49 → bX9_ofWholes_136 G fr lo h49 Q) (fun r h2 => Q (.threw r) h2)))))
set_option maxRecDepth 100000 in
theorem uX9_ofWholes {G : xG} {fr lo : Nat} {x0 : Nat} {x1 : Int32} {x2 : Int64} {x4 : Int64} {x6 : Int32} {h : xH} {Q : Outcome → xH → Prop} (hq : bX9_ofWholes G fr lo x0 x1 x2 x4 x6 h Q) : xP G YX9_ofWholes fr lo 0 [(0, rv x0), (1, .int x1), (2, .long x2), (4, .long x4), (6, .int x6)] [] h Q := by
  unfold bX9_ofWholes at hq
  refine x_iload_n 1 dX9_ofWholes_0 rfl ?_
  by_cases c1 : x1 = 20
  · replace hq := hq.1 c1
    refine x_tin (tgt := 32) (off := 31) 20 c1 dX9_ofWholes_1 (by decide) (by decide) (by decide) (by decide) ?_
    refine x_aload_n 0 dX9_ofWholes_32 rfl ?_
    refine x_lload_n 2 dX9_ofWholes_33 rfl ?_
    refine x_lload 3 dX9_ofWholes_34 rfl ?_
    refine x_ladd dX9_ofWholes_36 ?_
    refine x_iload 4 dX9_ofWholes_37 rfl ?_
    obtain ⟨g2, hq⟩ := hq
    obtain ⟨g3, g4, hq⟩ := hq
    refine x_callV (Yc := YX9_whole) (as := [.long (x2 + x4), .int x6]) (st := []) q2946 mvX9_whole g2 rfl dX9_ofWholes_39 (xle (xal1 (rv_cat _) (xal2 rfl (xal1 rfl xal0))) (by decide)) (xfr g3) (xlo xsw0 (by decide) g4) (xKv hq (fun h5 hq e7 => ?_) (fun _ _ q _ => q))
    replace hq := hq e7
    refine x_goto (tgt := 136) dX9_ofWholes_42 (by decide) ?_
    refine xP.pick (lv' := []) [] rfl ?_
    exact uX9_ofWholes_136 hq
  replace hq := hq.2
  by_cases c8 : x1 = 21
  · replace hq := hq.1 c8
    refine x_tin (tgt := 45) (off := 44) 21 c8 dX9_ofWholes_1 (by decide) (by decide) (by decide) (by decide) ?_
    refine x_aload_n 0 dX9_ofWholes_45 rfl ?_
    refine x_lload_n 2 dX9_ofWholes_46 rfl ?_
    refine x_lload 3 dX9_ofWholes_47 rfl ?_
    refine x_lsub dX9_ofWholes_49 ?_
    refine x_iload 4 dX9_ofWholes_50 rfl ?_
    obtain ⟨g9, hq⟩ := hq
    obtain ⟨g10, g11, hq⟩ := hq
    refine x_callV (Yc := YX9_whole) (as := [.long (x2 - x4), .int x6]) (st := []) q2946 mvX9_whole g9 rfl dX9_ofWholes_52 (xle (xal1 (rv_cat _) (xal2 rfl (xal1 rfl xal0))) (by decide)) (xfr g10) (xlo xsw0 (by decide) g11) (xKv hq (fun h12 hq e14 => ?_) (fun _ _ q _ => q))
    replace hq := hq e14
    refine x_goto (tgt := 136) dX9_ofWholes_55 (by decide) ?_
    refine xP.pick (lv' := []) [] rfl ?_
    exact uX9_ofWholes_136 hq
  replace hq := hq.2
  by_cases c15 : x1 = 22
  · replace hq := hq.1 c15
    refine x_tin (tgt := 58) (off := 57) 22 c15 dX9_ofWholes_1 (by decide) (by decide) (by decide) (by decide) ?_
    refine x_aload_n 0 dX9_ofWholes_58 rfl ?_
    refine x_lload_n 2 dX9_ofWholes_59 rfl ?_
    refine x_lload 3 dX9_ofWholes_60 rfl ?_
    refine x_lmul dX9_ofWholes_62 ?_
    refine x_iload 4 dX9_ofWholes_63 rfl ?_
    obtain ⟨g16, hq⟩ := hq
    obtain ⟨g17, g18, hq⟩ := hq
    refine x_callV (Yc := YX9_whole) (as := [.long (x2 * x4), .int x6]) (st := []) q2946 mvX9_whole g16 rfl dX9_ofWholes_65 (xle (xal1 (rv_cat _) (xal2 rfl (xal1 rfl xal0))) (by decide)) (xfr g17) (xlo xsw0 (by decide) g18) (xKv hq (fun h19 hq e21 => ?_) (fun _ _ q _ => q))
    replace hq := hq e21
    refine x_goto (tgt := 136) dX9_ofWholes_68 (by decide) ?_
    refine xP.pick (lv' := []) [] rfl ?_
    exact uX9_ofWholes_136 hq
  replace hq := hq.2
  by_cases c22 : x1 = 23
  · replace hq := hq.1 c22
    refine x_tin (tgt := 71) (off := 70) 23 c22 dX9_ofWholes_1 (by decide) (by decide) (by decide) (by decide) ?_
    refine x_lload 3 dX9_ofWholes_71 rfl ?_
    refine x_lconst (v := 0) dX9_ofWholes_73 (by decide) ?_
    refine x_lcmp dX9_ofWholes_74 ?_
    refine x_if_ne (tgt := 89) dX9_ofWholes_75 (by decide) (fun c23 => ?_) (fun c23 => ?_)
    · replace hq := hq.1 c23
      refine x_aload_n 0 dX9_ofWholes_89 rfl ?_
      refine x_lload_n 2 dX9_ofWholes_90 rfl ?_
      refine x_lload 3 dX9_ofWholes_91 rfl ?_
      obtain ⟨g24, hq⟩ := hq
      refine x_ldiv dX9_ofWholes_93 g24 ?_
      refine x_iload 4 dX9_ofWholes_94 rfl ?_
      obtain ⟨g25, hq⟩ := hq
      obtain ⟨g26, g27, hq⟩ := hq
      refine x_callV (Yc := YX9_whole) (as := [.long (x2 / x4), .int x6]) (st := []) q2946 mvX9_whole g25 rfl dX9_ofWholes_96 (xle (xal1 (rv_cat _) (xal2 rfl (xal1 rfl xal0))) (by decide)) (xfr g26) (xlo xsw0 (by decide) g27) (xKv hq (fun h28 hq e30 => ?_) (fun _ _ q _ => q))
      replace hq := hq e30
      refine x_goto (tgt := 136) dX9_ofWholes_99 (by decide) ?_
      refine xP.pick (lv' := []) [] rfl ?_
      exact uX9_ofWholes_136 hq
    · replace hq := hq.2 c23
      refine x_aload_n 0 dX9_ofWholes_78 rfl ?_
      refine x_bipush (v := 9) dX9_ofWholes_79 (by decide) ?_
      refine x_iload 4 dX9_ofWholes_81 rfl ?_
      obtain ⟨g31, hq⟩ := hq
      obtain ⟨g32, g33, hq⟩ := hq
      refine x_callV (Yc := YX9_fail) (as := [.int 9, .int x6]) (st := []) q2835 mvX9_fail g31 rfl dX9_ofWholes_83 (xle (xal1 (rv_cat _) (xal1 rfl (xal1 rfl xal0))) (by decide)) (xfr g32) (xlo xsw0 (by decide) g33) (xKv hq (fun h34 hq e36 => ?_) (fun _ _ q _ => q))
      replace hq := hq e36
      refine x_goto (tgt := 136) dX9_ofWholes_86 (by decide) ?_
      refine xP.pick (lv' := []) [] rfl ?_
      exact uX9_ofWholes_136 hq
  replace hq := hq.2
  replace hq := hq c1 c8 c15 c22
  have nc1 := lv_neT c1 (show (20 : Int32).toInt = 20 from by decide)
  have nc8 := lv_neT c8 (show (21 : Int32).toInt = 21 from by decide)
  have nc15 := lv_neT c15 (show (22 : Int32).toInt = 22 from by decide)
  have nc22 := lv_neT c22 (show (23 : Int32).toInt = 23 from by decide)
  refine x_tout (tgt := 102) dX9_ofWholes_1 (by omega) (by decide) ?_
  refine x_lload 3 dX9_ofWholes_102 rfl ?_
  refine x_lconst (v := 0) dX9_ofWholes_104 (by decide) ?_
  refine x_lcmp dX9_ofWholes_105 ?_
  refine x_if_gt (tgt := 120) dX9_ofWholes_106 (by decide) (fun c37 => ?_) (fun c37 => ?_)
  · replace hq := hq.1 c37
    refine x_aload_n 0 dX9_ofWholes_120 rfl ?_
    refine x_lload_n 2 dX9_ofWholes_121 rfl ?_
    refine x_lload 3 dX9_ofWholes_122 rfl ?_
    obtain ⟨g38, hq⟩ := hq
    refine x_lrem dX9_ofWholes_124 g38 ?_
    refine x_lload 3 dX9_ofWholes_125 rfl ?_
    refine x_ladd dX9_ofWholes_127 ?_
    refine x_lload 3 dX9_ofWholes_128 rfl ?_
    obtain ⟨g39, hq⟩ := hq
    refine x_lrem dX9_ofWholes_130 g39 ?_
    refine x_iload 4 dX9_ofWholes_131 rfl ?_
    obtain ⟨g40, hq⟩ := hq
    obtain ⟨g41, g42, hq⟩ := hq
    refine x_callV (Yc := YX9_whole) (as := [.long (((x2 - x2 / x4 * x4) + x4) - ((x2 - x2 / x4 * x4) + x4) / x4 * x4), .int x6]) (st := []) q2946 mvX9_whole g40 rfl dX9_ofWholes_133 (xle (xal1 (rv_cat _) (xal2 rfl (xal1 rfl xal0))) (by decide)) (xfr g41) (xlo xsw0 (by decide) g42) (xKv hq (fun h43 hq e45 => ?_) (fun _ _ q _ => q))
    replace hq := hq e45
    refine xP.pick (lv' := []) [] rfl ?_
    exact uX9_ofWholes_136 hq
  · replace hq := hq.2 c37
    refine x_aload_n 0 dX9_ofWholes_109 rfl ?_
    refine x_bipush (v := 9) dX9_ofWholes_110 (by decide) ?_
    refine x_iload 4 dX9_ofWholes_112 rfl ?_
    obtain ⟨g46, hq⟩ := hq
    obtain ⟨g47, g48, hq⟩ := hq
    refine x_callV (Yc := YX9_fail) (as := [.int 9, .int x6]) (st := []) q2835 mvX9_fail g46 rfl dX9_ofWholes_114 (xle (xal1 (rv_cat _) (xal1 rfl (xal1 rfl xal0))) (by decide)) (xfr g47) (xlo xsw0 (by decide) g48) (xKv hq (fun h49 hq e51 => ?_) (fun _ _ q _ => q))
    replace hq := hq e51
    refine x_goto (tgt := 136) dX9_ofWholes_117 (by decide) ?_
    refine xP.pick (lv' := []) [] rfl ?_
    exact uX9_ofWholes_136 hq
theorem rX9_ofWholes {G : xG} {fr lo : Nat} {x0 : Nat} {x1 : Int32} {x2 : Int64} {x4 : Int64} {x6 : Int32} {h : xH} {Q : Outcome → xH → Prop} (hq : bX9_ofWholes G fr lo x0 x1 x2 x4 x6 h Q) : xR G YX9_ofWholes fr lo [rv x0, .int x1, .long x2, .long x4, .int x6] h Q := by
  show xP _ _ _ _ _ (lv_args 0 _) _ _ _
  rw [show lv_args 0 [rv x0, .int x1, .long x2, .long x4, .int x6] = [(0, rv x0), (1, .int x1), (2, .long x2), (4, .long x4), (6, .int x6)] from (xla1 (rv_cat _) (xla1 rfl (xla2 rfl (xla2 rfl (xla1 rfl xla0)))))]
  exact uX9_ofWholes hq
set_option maxRecDepth 100000 in
theorem dX9_whole_0 : decode cX9_whole 0 = .ok (.lload_n 1, 1) := by decide +kernel
set_option maxRecDepth 100000 in
theorem dX9_whole_1 : decode cX9_whole 1 = .ok (.ldc2_w 282, 3) := by decide +kernel
set_option maxRecDepth 100000 in
theorem dX9_whole_4 : decode cX9_whole 4 = .ok (.lcmp, 1) := by decide +kernel
set_option maxRecDepth 100000 in
theorem dX9_whole_5 : decode cX9_whole 5 = .ok (.ifCond .gt 11, 3) := by decide +kernel
set_option maxRecDepth 100000 in
theorem dX9_whole_8 : decode cX9_whole 8 = .ok (.lload_n 1, 1) := by decide +kernel
set_option maxRecDepth 100000 in
theorem dX9_whole_9 : decode cX9_whole 9 = .ok (.ldc2_w 284, 3) := by decide +kernel
set_option maxRecDepth 100000 in
theorem dX9_whole_12 : decode cX9_whole 12 = .ok (.lcmp, 1) := by decide +kernel
set_option maxRecDepth 100000 in
theorem dX9_whole_13 : decode cX9_whole 13 = .ok (.ifCond .ge 10, 3) := by decide +kernel
set_option maxRecDepth 100000 in
theorem dX9_whole_16 : decode cX9_whole 16 = .ok (.aload_n 0, 1) := by decide +kernel
set_option maxRecDepth 100000 in
theorem dX9_whole_17 : decode cX9_whole 17 = .ok (.bipush 8, 2) := by decide +kernel
set_option maxRecDepth 100000 in
theorem dX9_whole_19 : decode cX9_whole 19 = .ok (.iload_n 3, 1) := by decide +kernel
set_option maxRecDepth 100000 in
theorem dX9_whole_20 : decode cX9_whole 20 = .ok (.invokevirtual 147, 3) := by decide +kernel
set_option maxRecDepth 100000 in
theorem dX9_whole_23 : decode cX9_whole 23 = .ok (.aload_n 0, 1) := by decide +kernel
set_option maxRecDepth 100000 in
theorem dX9_whole_24 : decode cX9_whole 24 = .ok (.getfield 28, 3) := by decide +kernel
set_option maxRecDepth 100000 in
theorem dX9_whole_27 : decode cX9_whole 27 = .ok (.aload_n 0, 1) := by decide +kernel
set_option maxRecDepth 100000 in
theorem dX9_whole_28 : decode cX9_whole 28 = .ok (.getfield 86, 3) := by decide +kernel
set_option maxRecDepth 100000 in
theorem dX9_whole_31 : decode cX9_whole 31 = .ok (.iconst 1, 1) := by decide +kernel
set_option maxRecDepth 100000 in
theorem dX9_whole_32 : decode cX9_whole 32 = .ok (.isub, 1) := by decide +kernel
set_option maxRecDepth 100000 in
theorem dX9_whole_33 : decode cX9_whole 33 = .ok (.lload_n 1, 1) := by decide +kernel
set_option maxRecDepth 100000 in
theorem dX9_whole_34 : decode cX9_whole 34 = .ok (.lastore, 1) := by decide +kernel
set_option maxRecDepth 100000 in
theorem dX9_whole_35 : decode cX9_whole 35 = .ok (.return_, 1) := by decide +kernel
set_option maxRecDepth 100000 in
def bX9_whole_23 (G : xG) (fr lo : Nat) (x0 : Nat) (x1 : Int64) (h : xH) (Q : Outcome → xH → Prop) : Prop := tg h x0 = 10 ∧ tg h (fR h x0 2307) = 101 ∧ vp_in ((fI h x0 2310) - 1) (ln h (fR h x0 2307)) ∧ (∀ h4 : xH, h4 = tJ h (fR h x0 2307) (Int32.toNatClampNeg ((fI h x0 2310) - 1)) x1 → Q (.returned none) h4)
set_option maxRecDepth 100000 in
theorem uX9_whole_23 {G : xG} {fr lo : Nat} {x0 : Nat} {x1 : Int64} {h : xH} {Q : Outcome → xH → Prop} (hq : bX9_whole_23 G fr lo x0 x1 h Q) : xP G YX9_whole fr lo 23 [(0, rv x0), (1, .long x1)] [] h Q := by
  unfold bX9_whole_23 at hq
  refine x_aload_n 0 dX9_whole_23 rfl ?_
  obtain ⟨g1, hq⟩ := hq
  refine x_get (v := rv (fR h x0 2307)) fdX9_28 dX9_whole_24 g1 rfl ?_
  refine x_aload_n 0 dX9_whole_27 rfl ?_
  refine x_get (v := .int (fI h x0 2310)) fdX9_86 dX9_whole_28 g1 rfl ?_
  refine x_iconst (v := 1) dX9_whole_31 (by decide) ?_
  refine x_isub dX9_whole_32 ?_
  refine x_lload_n 1 dX9_whole_33 rfl ?_
  obtain ⟨g2, hq⟩ := hq
  obtain ⟨i3, hq⟩ := hq
  obtain ⟨h4, e5⟩ : ∃ y, y = tJ h (fR h x0 2307) (Int32.toNatClampNeg ((fI h x0 2310) - 1)) x1 := ⟨_, rfl⟩
  replace hq := hq h4 e5
  refine x_last' g2 i3 dX9_whole_34 e5 ?_
  exact x_vret rfl dX9_whole_35 hq
set_option maxRecDepth 100000 in
def bX9_whole_16 (G : xG) (fr lo : Nat) (x0 : Nat) (x1 : Int64) (x3 : Int32) (h : xH) (Q : Outcome → xH → Prop) : Prop := tg h x0 = 10 ∧ 1 ≤ fr ∧ 14 ≤ lo ∧ xRv G YX9_fail (fr - 1) (lo - 14) [rv x0, .int 8, .int x3] h (fun h4 => xext h h4 → bX9_whole_23 G fr lo x0 x1 h4 Q) (fun r h2 => Q (.threw r) h2)
set_option maxRecDepth 100000 in
theorem uX9_whole_16 {G : xG} {fr lo : Nat} {x0 : Nat} {x1 : Int64} {x3 : Int32} {h : xH} {Q : Outcome → xH → Prop} (hq : bX9_whole_16 G fr lo x0 x1 x3 h Q) : xP G YX9_whole fr lo 16 [(0, rv x0), (1, .long x1), (3, .int x3)] [] h Q := by
  unfold bX9_whole_16 at hq
  refine x_aload_n 0 dX9_whole_16 rfl ?_
  refine x_bipush (v := 8) dX9_whole_17 (by decide) ?_
  refine x_iload_n 2 dX9_whole_19 rfl ?_
  obtain ⟨g1, hq⟩ := hq
  obtain ⟨g2, g3, hq⟩ := hq
  refine x_callV (Yc := YX9_fail) (as := [.int 8, .int x3]) (st := []) q2835 mvX9_fail g1 rfl dX9_whole_20 (xle (xal1 (rv_cat _) (xal1 rfl (xal1 rfl xal0))) (by decide)) (xfr g2) (xlo xsw0 (by decide) g3) (xKv hq (fun h4 hq e6 => ?_) (fun _ _ q _ => q))
  replace hq := hq e6
  refine xP.pick (lv' := [(0, rv x0), (1, .long x1)]) [0, 1] rfl ?_
  exact uX9_whole_23 hq
set_option maxRecDepth 100000 in
def bX9_whole (G : xG) (fr lo : Nat) (x0 : Nat) (x1 : Int64) (x3 : Int32) (h : xH) (Q : Outcome → xH → Prop) : Prop := ((0 < (lg_cmp x1 2147483647) → bX9_whole_16 G fr lo x0 x1 x3 h Q) ∧ (¬ 0 < (lg_cmp x1 2147483647) → ((0 ≤ (lg_cmp x1 (-2147483647)) → bX9_whole_23 G fr lo x0 x1 h Q) ∧ (¬ 0 ≤ (lg_cmp x1 (-2147483647)) → bX9_whole_16 G fr lo x0 x1 x3 h Q))))
set_option maxRecDepth 100000 in
theorem uX9_whole {G : xG} {fr lo : Nat} {x0 : Nat} {x1 : Int64} {x3 : Int32} {h : xH} {Q : Outcome → xH → Prop} (hq : bX9_whole G fr lo x0 x1 x3 h Q) : xP G YX9_whole fr lo 0 [(0, rv x0), (1, .long x1), (3, .int x3)] [] h Q := by
  unfold bX9_whole at hq
  refine x_lload_n 1 dX9_whole_0 rfl ?_
  refine x_ldc2 (v := 2147483647) q2950 dX9_whole_1 ?_
  refine x_lcmp dX9_whole_4 ?_
  refine x_if_gt (tgt := 16) dX9_whole_5 (by decide) (fun c1 => ?_) (fun c1 => ?_)
  · replace hq := hq.1 c1
    exact uX9_whole_16 hq
  · replace hq := hq.2 c1
    refine x_lload_n 1 dX9_whole_8 rfl ?_
    refine x_ldc2 (v := (-2147483647)) q2951 dX9_whole_9 ?_
    refine x_lcmp dX9_whole_12 ?_
    refine x_if_ge (tgt := 23) dX9_whole_13 (by decide) (fun c2 => ?_) (fun c2 => ?_)
    · replace hq := hq.1 c2
      refine xP.pick (lv' := [(0, rv x0), (1, .long x1)]) [0, 1] rfl ?_
      exact uX9_whole_23 hq
    · replace hq := hq.2 c2
      exact uX9_whole_16 hq
theorem rX9_whole {G : xG} {fr lo : Nat} {x0 : Nat} {x1 : Int64} {x3 : Int32} {h : xH} {Q : Outcome → xH → Prop} (hq : bX9_whole G fr lo x0 x1 x3 h Q) : xR G YX9_whole fr lo [rv x0, .long x1, .int x3] h Q := by
  show xP _ _ _ _ _ (lv_args 0 _) _ _ _
  rw [show lv_args 0 [rv x0, .long x1, .int x3] = [(0, rv x0), (1, .long x1), (3, .int x3)] from (xla1 (rv_cat _) (xla2 rfl (xla1 rfl xla0)))]
  exact uX9_whole hq
set_option maxRecDepth 100000 in
theorem dX9_ofFractions_0 : decode cX9_ofFractions 0 = .ok (.iload_n 1, 1) := by decide +kernel
set_option maxRecDepth 100000 in
theorem dX9_ofFractions_1 : decode cX9_ofFractions 1 = .ok (.tableswitch 66 26 28 #[27, 40, 53], 27) := by decide +kernel
set_option maxRecDepth 100000 in
theorem dX9_ofFractions_28 : decode cX9_ofFractions 28 = .ok (.aload_n 0, 1) := by decide +kernel
set_option maxRecDepth 100000 in
theorem dX9_ofFractions_29 : decode cX9_ofFractions 29 = .ok (.dload_n 2, 1) := by decide +kernel
set_option maxRecDepth 100000 in
theorem dX9_ofFractions_30 : decode cX9_ofFractions 30 = .ok (.dload 4, 2) := by decide +kernel
set_option maxRecDepth 100000 in
theorem dX9_ofFractions_32 : decode cX9_ofFractions 32 = .ok (.dadd, 1) := by decide +kernel
set_option maxRecDepth 100000 in
theorem dX9_ofFractions_33 : decode cX9_ofFractions 33 = .ok (.iload 6, 2) := by decide +kernel
set_option maxRecDepth 100000 in
theorem dX9_ofFractions_35 : decode cX9_ofFractions 35 = .ok (.invokevirtual 316, 3) := by decide +kernel
set_option maxRecDepth 100000 in
theorem dX9_ofFractions_38 : decode cX9_ofFractions 38 = .ok (.goto 57, 3) := by decide +kernel
set_option maxRecDepth 100000 in
theorem dX9_ofFractions_41 : decode cX9_ofFractions 41 = .ok (.aload_n 0, 1) := by decide +kernel
set_option maxRecDepth 100000 in
theorem dX9_ofFractions_42 : decode cX9_ofFractions 42 = .ok (.dload_n 2, 1) := by decide +kernel
set_option maxRecDepth 100000 in
theorem dX9_ofFractions_43 : decode cX9_ofFractions 43 = .ok (.dload 4, 2) := by decide +kernel
set_option maxRecDepth 100000 in
theorem dX9_ofFractions_45 : decode cX9_ofFractions 45 = .ok (.dsub, 1) := by decide +kernel
set_option maxRecDepth 100000 in
theorem dX9_ofFractions_46 : decode cX9_ofFractions 46 = .ok (.iload 6, 2) := by decide +kernel
set_option maxRecDepth 100000 in
theorem dX9_ofFractions_48 : decode cX9_ofFractions 48 = .ok (.invokevirtual 316, 3) := by decide +kernel
set_option maxRecDepth 100000 in
theorem dX9_ofFractions_51 : decode cX9_ofFractions 51 = .ok (.goto 44, 3) := by decide +kernel
set_option maxRecDepth 100000 in
theorem dX9_ofFractions_54 : decode cX9_ofFractions 54 = .ok (.aload_n 0, 1) := by decide +kernel
set_option maxRecDepth 100000 in
theorem dX9_ofFractions_55 : decode cX9_ofFractions 55 = .ok (.dload_n 2, 1) := by decide +kernel
set_option maxRecDepth 100000 in
theorem dX9_ofFractions_56 : decode cX9_ofFractions 56 = .ok (.dload 4, 2) := by decide +kernel
set_option maxRecDepth 100000 in
theorem dX9_ofFractions_58 : decode cX9_ofFractions 58 = .ok (.dmul, 1) := by decide +kernel
set_option maxRecDepth 100000 in
theorem dX9_ofFractions_59 : decode cX9_ofFractions 59 = .ok (.iload 6, 2) := by decide +kernel
set_option maxRecDepth 100000 in
theorem dX9_ofFractions_61 : decode cX9_ofFractions 61 = .ok (.invokevirtual 316, 3) := by decide +kernel
set_option maxRecDepth 100000 in
theorem dX9_ofFractions_64 : decode cX9_ofFractions 64 = .ok (.goto 31, 3) := by decide +kernel
set_option maxRecDepth 100000 in
theorem dX9_ofFractions_67 : decode cX9_ofFractions 67 = .ok (.dload 4, 2) := by decide +kernel
set_option maxRecDepth 100000 in
theorem dX9_ofFractions_69 : decode cX9_ofFractions 69 = .ok (.dconst 0, 1) := by decide +kernel
set_option maxRecDepth 100000 in
theorem dX9_ofFractions_70 : decode cX9_ofFractions 70 = .ok (.dcmp .l, 1) := by decide +kernel
set_option maxRecDepth 100000 in
theorem dX9_ofFractions_71 : decode cX9_ofFractions 71 = .ok (.ifCond .ne 14, 3) := by decide +kernel
set_option maxRecDepth 100000 in
theorem dX9_ofFractions_74 : decode cX9_ofFractions 74 = .ok (.aload_n 0, 1) := by decide +kernel
set_option maxRecDepth 100000 in
theorem dX9_ofFractions_75 : decode cX9_ofFractions 75 = .ok (.bipush 9, 2) := by decide +kernel
set_option maxRecDepth 100000 in
theorem dX9_ofFractions_77 : decode cX9_ofFractions 77 = .ok (.iload 6, 2) := by decide +kernel
set_option maxRecDepth 100000 in
theorem dX9_ofFractions_79 : decode cX9_ofFractions 79 = .ok (.invokevirtual 147, 3) := by decide +kernel
set_option maxRecDepth 100000 in
theorem dX9_ofFractions_82 : decode cX9_ofFractions 82 = .ok (.goto 13, 3) := by decide +kernel
set_option maxRecDepth 100000 in
theorem dX9_ofFractions_85 : decode cX9_ofFractions 85 = .ok (.aload_n 0, 1) := by decide +kernel
set_option maxRecDepth 100000 in
theorem dX9_ofFractions_86 : decode cX9_ofFractions 86 = .ok (.dload_n 2, 1) := by decide +kernel
set_option maxRecDepth 100000 in
theorem dX9_ofFractions_87 : decode cX9_ofFractions 87 = .ok (.dload 4, 2) := by decide +kernel
set_option maxRecDepth 100000 in
theorem dX9_ofFractions_89 : decode cX9_ofFractions 89 = .ok (.ddiv, 1) := by decide +kernel
set_option maxRecDepth 100000 in
theorem dX9_ofFractions_90 : decode cX9_ofFractions 90 = .ok (.iload 6, 2) := by decide +kernel
set_option maxRecDepth 100000 in
theorem dX9_ofFractions_92 : decode cX9_ofFractions 92 = .ok (.invokevirtual 316, 3) := by decide +kernel
set_option maxRecDepth 100000 in
theorem dX9_ofFractions_95 : decode cX9_ofFractions 95 = .ok (.return_, 1) := by decide +kernel
set_option maxRecDepth 100000 in
def bX9_ofFractions_95 (G : xG) (fr lo : Nat) (h : xH) (Q : Outcome → xH → Prop) : Prop := Q (.returned none) h
set_option maxRecDepth 100000 in
theorem uX9_ofFractions_95 {G : xG} {fr lo : Nat} {h : xH} {Q : Outcome → xH → Prop} (hq : bX9_ofFractions_95 G fr lo h Q) : xP G YX9_ofFractions fr lo 95 [] [] h Q := by
  unfold bX9_ofFractions_95 at hq
  exact x_vret rfl dX9_ofFractions_95 hq
set_option maxRecDepth 100000 in
def bX9_ofFractions (G : xG) (fr lo : Nat) (x0 : Nat) (x1 : Int32) (x2 : UInt64) (x4 : UInt64) (x6 : Int32) (h : xH) (Q : Outcome → xH → Prop) : Prop := ((x1 = 26 → vf_n64 (FP.dadd x2 x4) ∧ tg h x0 = 10 ∧ 1 ≤ fr ∧ 15 ≤ lo ∧ xRv G YX9_fraction (fr - 1) (lo - 15) [rv x0, .double (FP.dadd x2 x4), .int x6] h (fun h6 => xext h h6 → bX9_ofFractions_95 G fr lo h6 Q) (fun r h2 => Q (.threw r) h2)) ∧ (x1 = 27 → vf_n64 (FP.dsub x2 x4) ∧ tg h x0 = 10 ∧ 1 ≤ fr ∧ 15 ≤ lo ∧ xRv G YX9_fraction (fr - 1) (lo - 15) [rv x0, .double (FP.dsub x2 x4), .int x6] h (fun h14 => xext h h14 → bX9_ofFractions_95 G fr lo h14 Q) (fun r h2 => Q (.threw r) h2)) ∧ (x1 = 28 → vf_n64 (FP.dmul x2 x4) ∧ tg h x0 = 10 ∧ 1 ≤ fr ∧ 15 ≤ lo ∧ xRv G YX9_fraction (fr - 1) (lo - 15) [rv x0, .double (FP.dmul x2 x4), .int x6] h (fun h22 => xext h h22 → bX9_ofFractions_95 G fr lo h22 Q) (fun r h2 => Q (.threw r) h2)) ∧ (¬ x1 = 26 → ¬ x1 = 27 → ¬ x1 = 28 → ((¬ (Op.cmpValue (FP.dcmp x4 FP.dconst0) .l) = 0 → vf_n64 (FP.ddiv x2 x4) ∧ tg h x0 = 10 ∧ 1 ≤ fr ∧ 15 ≤ lo ∧ xRv G YX9_fraction (fr - 1) (lo - 15) [rv x0, .double (FP.ddiv x2 x4), .int x6] h (fun h30 => xext h h30 → bX9_ofFractions_95 G fr lo h30 Q) (fun r h2 => Q (.threw r) h2)) ∧ ((Op.cmpValue (FP.dcmp x4 FP.dconst0) .l) = 0 → tg h x0 = 10 ∧ 1 ≤ fr ∧ 14 ≤ lo ∧ xRv G YX9_fail (fr - 1) (lo - 14) [rv x0, .int 9, .int x6] h (fun h36 => xext h h36 → bX9_ofFractions_95 G fr lo h36 Q) (fun r h2 => Q (.threw r) h2)))))
set_option maxRecDepth 100000 in
theorem uX9_ofFractions {G : xG} {fr lo : Nat} {x0 : Nat} {x1 : Int32} {x2 : UInt64} {x4 : UInt64} {x6 : Int32} {h : xH} {Q : Outcome → xH → Prop} (hq : bX9_ofFractions G fr lo x0 x1 x2 x4 x6 h Q) : xP G YX9_ofFractions fr lo 0 [(0, rv x0), (1, .int x1), (2, .double x2), (4, .double x4), (6, .int x6)] [] h Q := by
  unfold bX9_ofFractions at hq
  refine x_iload_n 1 dX9_ofFractions_0 rfl ?_
  by_cases c1 : x1 = 26
  · replace hq := hq.1 c1
    refine x_tin (tgt := 28) (off := 27) 26 c1 dX9_ofFractions_1 (by decide) (by decide) (by decide) (by decide) ?_
    refine x_aload_n 0 dX9_ofFractions_28 rfl ?_
    refine x_dload_n 2 dX9_ofFractions_29 rfl ?_
    refine x_dload 3 dX9_ofFractions_30 rfl ?_
    obtain ⟨g2, hq⟩ := hq
    refine x_dadd dX9_ofFractions_32 g2 ?_
    refine x_iload 4 dX9_ofFractions_33 rfl ?_
    obtain ⟨g3, hq⟩ := hq
    obtain ⟨g4, g5, hq⟩ := hq
    refine x_callV (Yc := YX9_fraction) (as := [.double (FP.dadd x2 x4), .int x6]) (st := []) q2956 mvX9_fraction g3 rfl dX9_ofFractions_35 (xle (xal1 (rv_cat _) (xal2 rfl (xal1 rfl xal0))) (by decide)) (xfr g4) (xlo xsw0 (by decide) g5) (xKv hq (fun h6 hq e8 => ?_) (fun _ _ q _ => q))
    replace hq := hq e8
    refine x_goto (tgt := 95) dX9_ofFractions_38 (by decide) ?_
    refine xP.pick (lv' := []) [] rfl ?_
    exact uX9_ofFractions_95 hq
  replace hq := hq.2
  by_cases c9 : x1 = 27
  · replace hq := hq.1 c9
    refine x_tin (tgt := 41) (off := 40) 27 c9 dX9_ofFractions_1 (by decide) (by decide) (by decide) (by decide) ?_
    refine x_aload_n 0 dX9_ofFractions_41 rfl ?_
    refine x_dload_n 2 dX9_ofFractions_42 rfl ?_
    refine x_dload 3 dX9_ofFractions_43 rfl ?_
    obtain ⟨g10, hq⟩ := hq
    refine x_dsub dX9_ofFractions_45 g10 ?_
    refine x_iload 4 dX9_ofFractions_46 rfl ?_
    obtain ⟨g11, hq⟩ := hq
    obtain ⟨g12, g13, hq⟩ := hq
    refine x_callV (Yc := YX9_fraction) (as := [.double (FP.dsub x2 x4), .int x6]) (st := []) q2956 mvX9_fraction g11 rfl dX9_ofFractions_48 (xle (xal1 (rv_cat _) (xal2 rfl (xal1 rfl xal0))) (by decide)) (xfr g12) (xlo xsw0 (by decide) g13) (xKv hq (fun h14 hq e16 => ?_) (fun _ _ q _ => q))
    replace hq := hq e16
    refine x_goto (tgt := 95) dX9_ofFractions_51 (by decide) ?_
    refine xP.pick (lv' := []) [] rfl ?_
    exact uX9_ofFractions_95 hq
  replace hq := hq.2
  by_cases c17 : x1 = 28
  · replace hq := hq.1 c17
    refine x_tin (tgt := 54) (off := 53) 28 c17 dX9_ofFractions_1 (by decide) (by decide) (by decide) (by decide) ?_
    refine x_aload_n 0 dX9_ofFractions_54 rfl ?_
    refine x_dload_n 2 dX9_ofFractions_55 rfl ?_
    refine x_dload 3 dX9_ofFractions_56 rfl ?_
    obtain ⟨g18, hq⟩ := hq
    refine x_dmul dX9_ofFractions_58 g18 ?_
    refine x_iload 4 dX9_ofFractions_59 rfl ?_
    obtain ⟨g19, hq⟩ := hq
    obtain ⟨g20, g21, hq⟩ := hq
    refine x_callV (Yc := YX9_fraction) (as := [.double (FP.dmul x2 x4), .int x6]) (st := []) q2956 mvX9_fraction g19 rfl dX9_ofFractions_61 (xle (xal1 (rv_cat _) (xal2 rfl (xal1 rfl xal0))) (by decide)) (xfr g20) (xlo xsw0 (by decide) g21) (xKv hq (fun h22 hq e24 => ?_) (fun _ _ q _ => q))
    replace hq := hq e24
    refine x_goto (tgt := 95) dX9_ofFractions_64 (by decide) ?_
    refine xP.pick (lv' := []) [] rfl ?_
    exact uX9_ofFractions_95 hq
  replace hq := hq.2
  replace hq := hq c1 c9 c17
  have nc1 := lv_neT c1 (show (26 : Int32).toInt = 26 from by decide)
  have nc9 := lv_neT c9 (show (27 : Int32).toInt = 27 from by decide)
  have nc17 := lv_neT c17 (show (28 : Int32).toInt = 28 from by decide)
  refine x_tout (tgt := 67) dX9_ofFractions_1 (by omega) (by decide) ?_
  refine x_dload 3 dX9_ofFractions_67 rfl ?_
  refine x_dconst0 dX9_ofFractions_69 ?_
  refine x_dcmp dX9_ofFractions_70 ?_
  refine x_if_ne (tgt := 85) dX9_ofFractions_71 (by decide) (fun c25 => ?_) (fun c25 => ?_)
  · replace hq := hq.1 c25
    refine x_aload_n 0 dX9_ofFractions_85 rfl ?_
    refine x_dload_n 2 dX9_ofFractions_86 rfl ?_
    refine x_dload 3 dX9_ofFractions_87 rfl ?_
    obtain ⟨g26, hq⟩ := hq
    refine x_ddiv dX9_ofFractions_89 g26 ?_
    refine x_iload 4 dX9_ofFractions_90 rfl ?_
    obtain ⟨g27, hq⟩ := hq
    obtain ⟨g28, g29, hq⟩ := hq
    refine x_callV (Yc := YX9_fraction) (as := [.double (FP.ddiv x2 x4), .int x6]) (st := []) q2956 mvX9_fraction g27 rfl dX9_ofFractions_92 (xle (xal1 (rv_cat _) (xal2 rfl (xal1 rfl xal0))) (by decide)) (xfr g28) (xlo xsw0 (by decide) g29) (xKv hq (fun h30 hq e32 => ?_) (fun _ _ q _ => q))
    replace hq := hq e32
    refine xP.pick (lv' := []) [] rfl ?_
    exact uX9_ofFractions_95 hq
  · replace hq := hq.2 c25
    refine x_aload_n 0 dX9_ofFractions_74 rfl ?_
    refine x_bipush (v := 9) dX9_ofFractions_75 (by decide) ?_
    refine x_iload 4 dX9_ofFractions_77 rfl ?_
    obtain ⟨g33, hq⟩ := hq
    obtain ⟨g34, g35, hq⟩ := hq
    refine x_callV (Yc := YX9_fail) (as := [.int 9, .int x6]) (st := []) q2835 mvX9_fail g33 rfl dX9_ofFractions_79 (xle (xal1 (rv_cat _) (xal1 rfl (xal1 rfl xal0))) (by decide)) (xfr g34) (xlo xsw0 (by decide) g35) (xKv hq (fun h36 hq e38 => ?_) (fun _ _ q _ => q))
    replace hq := hq e38
    refine x_goto (tgt := 95) dX9_ofFractions_82 (by decide) ?_
    refine xP.pick (lv' := []) [] rfl ?_
    exact uX9_ofFractions_95 hq
theorem rX9_ofFractions {G : xG} {fr lo : Nat} {x0 : Nat} {x1 : Int32} {x2 : UInt64} {x4 : UInt64} {x6 : Int32} {h : xH} {Q : Outcome → xH → Prop} (hq : bX9_ofFractions G fr lo x0 x1 x2 x4 x6 h Q) : xR G YX9_ofFractions fr lo [rv x0, .int x1, .double x2, .double x4, .int x6] h Q := by
  show xP _ _ _ _ _ (lv_args 0 _) _ _ _
  rw [show lv_args 0 [rv x0, .int x1, .double x2, .double x4, .int x6] = [(0, rv x0), (1, .int x1), (2, .double x2), (4, .double x4), (6, .int x6)] from (xla1 (rv_cat _) (xla1 rfl (xla2 rfl (xla2 rfl (xla1 rfl xla0)))))]
  exact uX9_ofFractions hq
set_option maxRecDepth 100000 in
theorem dX9_fraction_0 : decode cX9_fraction 0 = .ok (.dload_n 1, 1) := by decide +kernel
set_option maxRecDepth 100000 in
theorem dX9_fraction_1 : decode cX9_fraction 1 = .ok (.invokestatic 286, 3) := by decide +kernel
set_option maxRecDepth 100000 in
theorem dX9_fraction_4 : decode cX9_fraction 4 = .ok (.ifCond .ne 10, 3) := by decide +kernel
set_option maxRecDepth 100000 in
theorem dX9_fraction_7 : decode cX9_fraction 7 = .ok (.aload_n 0, 1) := by decide +kernel
set_option maxRecDepth 100000 in
theorem dX9_fraction_8 : decode cX9_fraction 8 = .ok (.bipush 8, 2) := by decide +kernel
set_option maxRecDepth 100000 in
theorem dX9_fraction_10 : decode cX9_fraction 10 = .ok (.iload_n 3, 1) := by decide +kernel
set_option maxRecDepth 100000 in
theorem dX9_fraction_11 : decode cX9_fraction 11 = .ok (.invokevirtual 147, 3) := by decide +kernel
set_option maxRecDepth 100000 in
theorem dX9_fraction_14 : decode cX9_fraction 14 = .ok (.aload_n 0, 1) := by decide +kernel
set_option maxRecDepth 100000 in
theorem dX9_fraction_15 : decode cX9_fraction 15 = .ok (.getfield 35, 3) := by decide +kernel
set_option maxRecDepth 100000 in
theorem dX9_fraction_18 : decode cX9_fraction 18 = .ok (.aload_n 0, 1) := by decide +kernel
set_option maxRecDepth 100000 in
theorem dX9_fraction_19 : decode cX9_fraction 19 = .ok (.getfield 86, 3) := by decide +kernel
set_option maxRecDepth 100000 in
theorem dX9_fraction_22 : decode cX9_fraction 22 = .ok (.iconst 1, 1) := by decide +kernel
set_option maxRecDepth 100000 in
theorem dX9_fraction_23 : decode cX9_fraction 23 = .ok (.isub, 1) := by decide +kernel
set_option maxRecDepth 100000 in
theorem dX9_fraction_24 : decode cX9_fraction 24 = .ok (.dload_n 1, 1) := by decide +kernel
set_option maxRecDepth 100000 in
theorem dX9_fraction_25 : decode cX9_fraction 25 = .ok (.dastore, 1) := by decide +kernel
set_option maxRecDepth 100000 in
theorem dX9_fraction_26 : decode cX9_fraction 26 = .ok (.return_, 1) := by decide +kernel
set_option maxRecDepth 100000 in
def bX9_fraction_14 (G : xG) (fr lo : Nat) (x0 : Nat) (x1 : UInt64) (h : xH) (Q : Outcome → xH → Prop) : Prop := tg h x0 = 10 ∧ tg h (fR h x0 2309) = 102 ∧ vp_in ((fI h x0 2310) - 1) (ln h (fR h x0 2309)) ∧ (∀ h4 : xH, h4 = tD h (fR h x0 2309) (Int32.toNatClampNeg ((fI h x0 2310) - 1)) x1 → Q (.returned none) h4)
set_option maxRecDepth 100000 in
theorem uX9_fraction_14 {G : xG} {fr lo : Nat} {x0 : Nat} {x1 : UInt64} {h : xH} {Q : Outcome → xH → Prop} (hq : bX9_fraction_14 G fr lo x0 x1 h Q) : xP G YX9_fraction fr lo 14 [(0, rv x0), (1, .double x1)] [] h Q := by
  unfold bX9_fraction_14 at hq
  refine x_aload_n 0 dX9_fraction_14 rfl ?_
  obtain ⟨g1, hq⟩ := hq
  refine x_get (v := rv (fR h x0 2309)) fdX9_35 dX9_fraction_15 g1 rfl ?_
  refine x_aload_n 0 dX9_fraction_18 rfl ?_
  refine x_get (v := .int (fI h x0 2310)) fdX9_86 dX9_fraction_19 g1 rfl ?_
  refine x_iconst (v := 1) dX9_fraction_22 (by decide) ?_
  refine x_isub dX9_fraction_23 ?_
  refine x_dload_n 1 dX9_fraction_24 rfl ?_
  obtain ⟨g2, hq⟩ := hq
  obtain ⟨i3, hq⟩ := hq
  obtain ⟨h4, e5⟩ : ∃ y, y = tD h (fR h x0 2309) (Int32.toNatClampNeg ((fI h x0 2310) - 1)) x1 := ⟨_, rfl⟩
  replace hq := hq h4 e5
  refine x_dast' g2 i3 dX9_fraction_25 e5 ?_
  exact x_vret rfl dX9_fraction_26 hq
set_option maxRecDepth 100000 in
def bX9_fraction (G : xG) (fr lo : Nat) (x0 : Nat) (x1 : UInt64) (x3 : Int32) (h : xH) (Q : Outcome → xH → Prop) : Prop := 1 ≤ fr ∧ 13 ≤ lo ∧ xRi G YX0_isFinite (fr - 1) (lo - 13) [.double x1] h (fun x4 h3 => xext h h3 → ((¬ x4 = 0 → bX9_fraction_14 G fr lo x0 x1 h3 Q) ∧ (x4 = 0 → tg h3 x0 = 10 ∧ 1 ≤ fr ∧ 14 ≤ lo ∧ xRv G YX9_fail (fr - 1) (lo - 14) [rv x0, .int 8, .int x3] h3 (fun h10 => xext h3 h10 → bX9_fraction_14 G fr lo x0 x1 h10 Q) (fun r h2 => Q (.threw r) h2)))) (fun r h2 => Q (.threw r) h2)
set_option maxRecDepth 100000 in
theorem uX9_fraction {G : xG} {fr lo : Nat} {x0 : Nat} {x1 : UInt64} {x3 : Int32} {h : xH} {Q : Outcome → xH → Prop} (hq : bX9_fraction G fr lo x0 x1 x3 h Q) : xP G YX9_fraction fr lo 0 [(0, rv x0), (1, .double x1), (3, .int x3)] [] h Q := by
  unfold bX9_fraction at hq
  refine x_dload_n 1 dX9_fraction_0 rfl ?_
  obtain ⟨g1, g2, hq⟩ := hq
  refine x_callSN (Yc := YX0_isFinite) (as := [.double x1]) (st := []) (List.mem_filter.mpr ⟨q2960, rfl⟩) msX0_isFinite rfl dX9_fraction_1 (xle (xal2 rfl xal0) (by decide)) (xfr g1) (xlo xsw0 (by decide) g2) (xKi hq (fun x4 h3 hq e5 => ?_) (fun _ _ q _ => q))
  replace hq := hq e5
  refine x_if_ne (tgt := 14) dX9_fraction_4 (by decide) (fun c6 => ?_) (fun c6 => ?_)
  · replace hq := hq.1 c6
    refine xP.pick (lv' := [(0, rv x0), (1, .double x1)]) [0, 1] rfl ?_
    exact uX9_fraction_14 hq
  · replace hq := hq.2 c6
    refine x_aload_n 0 dX9_fraction_7 rfl ?_
    refine x_bipush (v := 8) dX9_fraction_8 (by decide) ?_
    refine x_iload_n 2 dX9_fraction_10 rfl ?_
    obtain ⟨g7, hq⟩ := hq
    obtain ⟨g8, g9, hq⟩ := hq
    refine x_callV (Yc := YX9_fail) (as := [.int 8, .int x3]) (st := []) q2835 mvX9_fail g7 rfl dX9_fraction_11 (xle (xal1 (rv_cat _) (xal1 rfl (xal1 rfl xal0))) (by decide)) (xfr g8) (xlo xsw0 (by decide) g9) (xKv hq (fun h10 hq e12 => ?_) (fun _ _ q _ => q))
    replace hq := hq e12
    refine xP.pick (lv' := [(0, rv x0), (1, .double x1)]) [0, 1] rfl ?_
    exact uX9_fraction_14 hq
theorem rX9_fraction {G : xG} {fr lo : Nat} {x0 : Nat} {x1 : UInt64} {x3 : Int32} {h : xH} {Q : Outcome → xH → Prop} (hq : bX9_fraction G fr lo x0 x1 x3 h Q) : xR G YX9_fraction fr lo [rv x0, .double x1, .int x3] h Q := by
  show xP _ _ _ _ _ (lv_args 0 _) _ _ _
  rw [show lv_args 0 [rv x0, .double x1, .int x3] = [(0, rv x0), (1, .double x1), (3, .int x3)] from (xla1 (rv_cat _) (xla2 rfl (xla1 rfl xla0)))]
  exact uX9_fraction hq
