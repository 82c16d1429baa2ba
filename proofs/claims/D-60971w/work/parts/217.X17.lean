/-! PascalHouse$Block, walked (1) -/
set_option maxRecDepth 100000 in
theorem dX17_init_0 : decode cX17_init 0 = .ok (.aload_n 0, 1) := by decide +kernel
set_option maxRecDepth 100000 in
theorem dX17_init_1 : decode cX17_init 1 = .ok (.invokespecial 3, 3) := by decide +kernel
set_option maxRecDepth 100000 in
theorem dX17_init_4 : decode cX17_init 4 = .ok (.aload_n 0, 1) := by decide +kernel
set_option maxRecDepth 100000 in
theorem dX17_init_5 : decode cX17_init 5 = .ok (.new 9, 3) := by decide +kernel
set_option maxRecDepth 100000 in
theorem dX17_init_8 : decode cX17_init 8 = .ok (.dup, 1) := by decide +kernel
set_option maxRecDepth 100000 in
theorem dX17_init_9 : decode cX17_init 9 = .ok (.iconst 0, 1) := by decide +kernel
set_option maxRecDepth 100000 in
theorem dX17_init_10 : decode cX17_init 10 = .ok (.invokespecial 11, 3) := by decide +kernel
set_option maxRecDepth 100000 in
theorem dX17_init_13 : decode cX17_init 13 = .ok (.putfield 14, 3) := by decide +kernel
set_option maxRecDepth 100000 in
theorem dX17_init_16 : decode cX17_init 16 = .ok (.aload_n 0, 1) := by decide +kernel
set_option maxRecDepth 100000 in
theorem dX17_init_17 : decode cX17_init 17 = .ok (.new 9, 3) := by decide +kernel
set_option maxRecDepth 100000 in
theorem dX17_init_20 : decode cX17_init 20 = .ok (.dup, 1) := by decide +kernel
set_option maxRecDepth 100000 in
theorem dX17_init_21 : decode cX17_init 21 = .ok (.iconst 0, 1) := by decide +kernel
set_option maxRecDepth 100000 in
theorem dX17_init_22 : decode cX17_init 22 = .ok (.invokespecial 11, 3) := by decide +kernel
set_option maxRecDepth 100000 in
theorem dX17_init_25 : decode cX17_init 25 = .ok (.putfield 20, 3) := by decide +kernel
set_option maxRecDepth 100000 in
theorem dX17_init_28 : decode cX17_init 28 = .ok (.aload_n 0, 1) := by decide +kernel
set_option maxRecDepth 100000 in
theorem dX17_init_29 : decode cX17_init 29 = .ok (.bipush 41, 2) := by decide +kernel
set_option maxRecDepth 100000 in
theorem dX17_init_31 : decode cX17_init 31 = .ok (.newarray .int, 2) := by decide +kernel
set_option maxRecDepth 100000 in
theorem dX17_init_33 : decode cX17_init 33 = .ok (.putfield 23, 3) := by decide +kernel
set_option maxRecDepth 100000 in
theorem dX17_init_36 : decode cX17_init 36 = .ok (.aload_n 0, 1) := by decide +kernel
set_option maxRecDepth 100000 in
theorem dX17_init_37 : decode cX17_init 37 = .ok (.bipush 41, 2) := by decide +kernel
set_option maxRecDepth 100000 in
theorem dX17_init_39 : decode cX17_init 39 = .ok (.newarray .int, 2) := by decide +kernel
set_option maxRecDepth 100000 in
theorem dX17_init_41 : decode cX17_init 41 = .ok (.putfield 27, 3) := by decide +kernel
set_option maxRecDepth 100000 in
theorem dX17_init_44 : decode cX17_init 44 = .ok (.aload_n 0, 1) := by decide +kernel
set_option maxRecDepth 100000 in
theorem dX17_init_45 : decode cX17_init 45 = .ok (.iconst (-1), 1) := by decide +kernel
set_option maxRecDepth 100000 in
theorem dX17_init_46 : decode cX17_init 46 = .ok (.putfield 30, 3) := by decide +kernel
set_option maxRecDepth 100000 in
theorem dX17_init_49 : decode cX17_init 49 = .ok (.aload_n 0, 1) := by decide +kernel
set_option maxRecDepth 100000 in
theorem dX17_init_50 : decode cX17_init 50 = .ok (.aload_n 1, 1) := by decide +kernel
set_option maxRecDepth 100000 in
theorem dX17_init_51 : decode cX17_init 51 = .ok (.putfield 34, 3) := by decide +kernel
set_option maxRecDepth 100000 in
theorem dX17_init_54 : decode cX17_init 54 = .ok (.aload_n 0, 1) := by decide +kernel
set_option maxRecDepth 100000 in
theorem dX17_init_55 : decode cX17_init 55 = .ok (.aload_n 2, 1) := by decide +kernel
set_option maxRecDepth 100000 in
theorem dX17_init_56 : decode cX17_init 56 = .ok (.putfield 38, 3) := by decide +kernel
set_option maxRecDepth 100000 in
theorem dX17_init_59 : decode cX17_init 59 = .ok (.aload_n 0, 1) := by decide +kernel
set_option maxRecDepth 100000 in
theorem dX17_init_60 : decode cX17_init 60 = .ok (.aload_n 3, 1) := by decide +kernel
set_option maxRecDepth 100000 in
theorem dX17_init_61 : decode cX17_init 61 = .ok (.putfield 42, 3) := by decide +kernel
set_option maxRecDepth 100000 in
theorem dX17_init_64 : decode cX17_init 64 = .ok (.return_, 1) := by decide +kernel
set_option maxRecDepth 100000 in
def bX17_init (G : xG) (fr lo : Nat) (x0 : Nat) (x1 : Nat) (x2 : Nat) (x3 : Nat) (h : xH) (Q : Outcome → xH → Prop) : Prop := tg h x0 = 18 ∧ 1 ≤ fr ∧ 12 ≤ lo ∧ nx h + 1 ≤ xGN G ∧ us h + 3 ≤ xGU G ∧ (∀ (a6 : Nat) (h7 : xH), a6 = nx h + 1 → h7 = nO h 29 3 → xfresh h a6 → 1 ≤ fr ∧ 15 ≤ lo ∧ xRv G YJ2_init (fr - 1) (lo - 15) [rv a6, .int 0] h7 (fun h14 => xext h7 h14 → (∀ h19 : xH, h19 = sR h14 x0 4355 a6 → nx h19 + 1 ≤ xGN G ∧ us h19 + 3 ≤ xGU G ∧ (∀ (a23 : Nat) (h24 : xH), a23 = nx h19 + 1 → h24 = nO h19 29 3 → xfresh h19 a23 → 1 ≤ fr ∧ 15 ≤ lo ∧ xRv G YJ2_init (fr - 1) (lo - 15) [rv a23, .int 0] h24 (fun h31 => xext h24 h31 → (∀ h37 : xH, h37 = sR h31 x0 4356 a23 → nx h37 + 1 ≤ xGN G ∧ us h37 + (Int32.toNatClampNeg 41) ≤ xGU G ∧ (∀ (a41 : Nat) (h42 : xH), a41 = nx h37 + 1 → h42 = nA h37 100 (Int32.toNatClampNeg 41) → xfresh h37 a41 → (∀ h49 : xH, h49 = sR h42 x0 4357 a41 → nx h49 + 1 ≤ xGN G ∧ us h49 + (Int32.toNatClampNeg 41) ≤ xGU G ∧ (∀ (a53 : Nat) (h54 : xH), a53 = nx h49 + 1 → h54 = nA h49 100 (Int32.toNatClampNeg 41) → xfresh h49 a53 → (∀ h61 : xH, h61 = sR h54 x0 4358 a53 → (∀ h64 : xH, h64 = sI h61 x0 4362 (-1) → (∀ h67 : xH, h67 = sR h64 x0 4352 x1 → (∀ h70 : xH, h70 = sR h67 x0 4353 x2 → (∀ h73 : xH, h73 = sR h70 x0 4354 x3 → Q (.returned none) h73)))))))))) (fun r h2 => Q (.threw r) h2)))) (fun r h2 => Q (.threw r) h2))
set_option maxRecDepth 100000 in
theorem uX17_init {G : xG} {fr lo : Nat} {x0 : Nat} {x1 : Nat} {x2 : Nat} {x3 : Nat} {h : xH} {Q : Outcome → xH → Prop} (hq : bX17_init G fr lo x0 x1 x2 x3 h Q) : xP G YX17_init fr lo 0 [(0, rv x0), (1, rv x1), (2, rv x2), (3, rv x3)] [] h Q := by
  unfold bX17_init at hq
  refine x_aload_n 0 dX17_init_0 rfl ?_
  obtain ⟨g1, hq⟩ := hq
  obtain ⟨g2, g3, hq⟩ := hq
  refine x_objInit (by rw [g1]; decide) q2142 q438 q439 dX17_init_1 g2 (by simp only [List.map_cons, List.map_nil, List.sum_cons, List.sum_nil, rv_cat, Value.category]; omega) ?_
  refine x_aload_n 0 dX17_init_4 rfl ?_
  obtain ⟨g4, g5, hq⟩ := hq
  obtain ⟨a6, e8⟩ : ∃ y, y = nx h + 1 := ⟨_, rfl⟩
  obtain ⟨h7, e9⟩ : ∃ y, y = nO h 29 3 := ⟨_, rfl⟩
  refine x_new' cdX17_9 dX17_init_5 g4 g5 e8 e9 (fun f10 => ?_)
  replace hq := hq a6 h7 e8 e9 f10
  have t11 : tg h7 a6 = 29 := by rw [e9, e8]; exact tg_nO
  refine x_dup dX17_init_8 (rv_cat _) ?_
  refine x_iconst (v := 0) dX17_init_9 (by decide) ?_
  obtain ⟨g12, g13, hq⟩ := hq
  refine x_callI (Yc := YJ2_init) (as := [.int 0]) (st := [rv a6, rv x0]) q2144 miJ2_init (by rw [t11]; decide) rfl dX17_init_10 (xle (xal1 (rv_cat _) (xal1 rfl xal0)) (by decide)) (xfr g12) (xlo (xsw1 (rv_cat _) (xsw1 (rv_cat _) xsw0)) (by decide) g13) (xKv hq (fun h14 hq e16 => ?_) (fun _ _ q _ => q))
  replace hq := hq e16
  have t17 : tg h7 x0 = 18 := by rw [e9]; exact tg_nO_ne e8 f10 g1 (by decide)
  have t18 : tg h14 x0 = 18 := e16.tg t17 (by decide)
  obtain ⟨h19, e20⟩ : ∃ y, y = sR h14 x0 4355 a6 := ⟨_, rfl⟩
  replace hq := hq h19 e20
  refine x_putFR fdX17_14 owX17_init_3 xty_O dX17_init_13 t18 (Or.inl (by rw [t18]; rfl)) rfl e20 ?_
  refine x_aload_n 0 dX17_init_16 rfl ?_
  obtain ⟨g21, g22, hq⟩ := hq
  obtain ⟨a23, e25⟩ : ∃ y, y = nx h19 + 1 := ⟨_, rfl⟩
  obtain ⟨h24, e26⟩ : ∃ y, y = nO h19 29 3 := ⟨_, rfl⟩
  refine x_new' cdX17_9 dX17_init_17 g21 g22 e25 e26 (fun f27 => ?_)
  replace hq := hq a23 h24 e25 e26 f27
  have t28 : tg h24 a23 = 29 := by rw [e26, e25]; exact tg_nO
  refine x_dup dX17_init_20 (rv_cat _) ?_
  refine x_iconst (v := 0) dX17_init_21 (by decide) ?_
  obtain ⟨g29, g30, hq⟩ := hq
  refine x_callI (Yc := YJ2_init) (as := [.int 0]) (st := [rv a23, rv x0]) q2144 miJ2_init (by rw [t28]; decide) rfl dX17_init_22 (xle (xal1 (rv_cat _) (xal1 rfl xal0)) (by decide)) (xfr g29) (xlo (xsw1 (rv_cat _) (xsw1 (rv_cat _) xsw0)) (by decide) g30) (xKv hq (fun h31 hq e33 => ?_) (fun _ _ q _ => q))
  replace hq := hq e33
  have t34 : tg h19 x0 = 18 := by rw [e20]; exact t18
  have t35 : tg h24 x0 = 18 := by rw [e26]; exact tg_nO_ne e25 f27 t34 (by decide)
  have t36 : tg h31 x0 = 18 := e33.tg t35 (by decide)
  obtain ⟨h37, e38⟩ : ∃ y, y = sR h31 x0 4356 a23 := ⟨_, rfl⟩
  replace hq := hq h37 e38
  refine x_putFR fdX17_20 owX17_init_4 xty_O dX17_init_25 t36 (Or.inl (by rw [t36]; rfl)) rfl e38 ?_
  refine x_aload_n 0 dX17_init_28 rfl ?_
  refine x_bipush (v := 41) dX17_init_29 (by decide) ?_
  obtain ⟨g39, g40, hq⟩ := hq
  obtain ⟨a41, e43⟩ : ∃ y, y = nx h37 + 1 := ⟨_, rfl⟩
  obtain ⟨h42, e44⟩ : ∃ y, y = nA h37 100 (Int32.toNatClampNeg 41) := ⟨_, rfl⟩
  refine x_newa' 0 pk_int dX17_init_31 (by decide) (by decide) g39 g40 e43 e44 (fun f45 => ?_)
  replace hq := hq a41 h42 e43 e44 f45
  have t46 : tg h42 a41 = 100 := by rw [e44, e43]; exact tg_nA
  have t47 : tg h37 x0 = 18 := by rw [e38]; exact t36
  have t48 : tg h42 x0 = 18 := by rw [e44]; exact tg_nA_ne e43 f45 t47 (by decide)
  obtain ⟨h49, e50⟩ : ∃ y, y = sR h42 x0 4357 a41 := ⟨_, rfl⟩
  replace hq := hq h49 e50
  refine x_putFR fdX17_23 owX17_init_5 xty_A dX17_init_33 t48 (Or.inl (by rw [t48]; rfl)) rfl e50 ?_
  refine x_aload_n 0 dX17_init_36 rfl ?_
  refine x_bipush (v := 41) dX17_init_37 (by decide) ?_
  obtain ⟨g51, g52, hq⟩ := hq
  obtain ⟨a53, e55⟩ : ∃ y, y = nx h49 + 1 := ⟨_, rfl⟩
  obtain ⟨h54, e56⟩ : ∃ y, y = nA h49 100 (Int32.toNatClampNeg 41) := ⟨_, rfl⟩
  refine x_newa' 0 pk_int dX17_init_39 (by decide) (by decide) g51 g52 e55 e56 (fun f57 => ?_)
  replace hq := hq a53 h54 e55 e56 f57
  have t58 : tg h54 a53 = 100 := by rw [e56, e55]; exact tg_nA
  have t59 : tg h49 x0 = 18 := by rw [e50]; exact t48
  have t60 : tg h54 x0 = 18 := by rw [e56]; exact tg_nA_ne e55 f57 t59 (by decide)
  obtain ⟨h61, e62⟩ : ∃ y, y = sR h54 x0 4358 a53 := ⟨_, rfl⟩
  replace hq := hq h61 e62
  refine x_putFR fdX17_27 owX17_init_6 xty_A dX17_init_41 t60 (Or.inl (by rw [t60]; rfl)) rfl e62 ?_
  refine x_aload_n 0 dX17_init_44 rfl ?_
  refine x_iconst (v := (-1)) dX17_init_45 (by decide) ?_
  have t63 : tg h61 x0 = 18 := by rw [e62]; exact t60
  obtain ⟨h64, e65⟩ : ∃ y, y = sI h61 x0 4362 (-1) := ⟨_, rfl⟩
  replace hq := hq h64 e65
  refine x_putI fdX17_30 xty_I1 dX17_init_46 t63 (Or.inl (by rw [t63]; rfl)) xnI rfl e65 ?_
  refine x_aload_n 0 dX17_init_49 rfl ?_
  refine x_aload_n 1 dX17_init_50 rfl ?_
  have t66 : tg h64 x0 = 18 := by rw [e65]; exact t63
  obtain ⟨h67, e68⟩ : ∃ y, y = sR h64 x0 4352 x1 := ⟨_, rfl⟩
  replace hq := hq h67 e68
  refine x_putFR fdX17_34 owX17_init_0 xty_O dX17_init_51 t66 (Or.inl (by rw [t66]; rfl)) rfl e68 ?_
  refine x_aload_n 0 dX17_init_54 rfl ?_
  refine x_aload_n 2 dX17_init_55 rfl ?_
  have t69 : tg h67 x0 = 18 := by rw [e68]; exact t66
  obtain ⟨h70, e71⟩ : ∃ y, y = sR h67 x0 4353 x2 := ⟨_, rfl⟩
  replace hq := hq h70 e71
  refine x_putFR fdX17_38 owX17_init_1 xty_O dX17_init_56 t69 (Or.inl (by rw [t69]; rfl)) rfl e71 ?_
  refine x_aload_n 0 dX17_init_59 rfl ?_
  refine x_aload_n 3 dX17_init_60 rfl ?_
  have t72 : tg h70 x0 = 18 := by rw [e71]; exact t69
  obtain ⟨h73, e74⟩ : ∃ y, y = sR h70 x0 4354 x3 := ⟨_, rfl⟩
  replace hq := hq h73 e74
  refine x_putFR fdX17_42 owX17_init_2 xty_O dX17_init_61 t72 (Or.inl (by rw [t72]; rfl)) rfl e74 ?_
  exact x_vret rfl dX17_init_64 hq
theorem rX17_init {G : xG} {fr lo : Nat} {x0 : Nat} {x1 : Nat} {x2 : Nat} {x3 : Nat} {h : xH} {Q : Outcome → xH → Prop} (hq : bX17_init G fr lo x0 x1 x2 x3 h Q) : xR G YX17_init fr lo [rv x0, rv x1, rv x2, rv x3] h Q := by
  show xP _ _ _ _ _ (lv_args 0 _) _ _ _
  rw [show lv_args 0 [rv x0, rv x1, rv x2, rv x3] = [(0, rv x0), (1, rv x1), (2, rv x2), (3, rv x3)] from (xla1 (rv_cat _) (xla1 (rv_cat _) (xla1 (rv_cat _) (xla1 (rv_cat _) xla0))))]
  exact uX17_init hq
set_option maxRecDepth 100000 in
theorem dX17_label_0 : decode cX17_label 0 = .ok (.iconst 0, 1) := by decide +kernel
set_option maxRecDepth 100000 in
theorem dX17_label_1 : decode cX17_label 1 = .ok (.istore_n 2, 1) := by decide +kernel
set_option maxRecDepth 100000 in
theorem dX17_label_2 : decode cX17_label 2 = .ok (.iload_n 2, 1) := by decide +kernel
set_option maxRecDepth 100000 in
theorem dX17_label_3 : decode cX17_label 3 = .ok (.aload_n 0, 1) := by decide +kernel
set_option maxRecDepth 100000 in
theorem dX17_label_4 : decode cX17_label 4 = .ok (.getfield 14, 3) := by decide +kernel
set_option maxRecDepth 100000 in
theorem dX17_label_7 : decode cX17_label 7 = .ok (.invokevirtual 46, 3) := by decide +kernel
set_option maxRecDepth 100000 in
theorem dX17_label_10 : decode cX17_label 10 = .ok (.if_icmp .ge 39, 3) := by decide +kernel
set_option maxRecDepth 100000 in
theorem dX17_label_13 : decode cX17_label 13 = .ok (.aload_n 0, 1) := by decide +kernel
set_option maxRecDepth 100000 in
theorem dX17_label_14 : decode cX17_label 14 = .ok (.getfield 14, 3) := by decide +kernel
set_option maxRecDepth 100000 in
theorem dX17_label_17 : decode cX17_label 17 = .ok (.iload_n 2, 1) := by decide +kernel
set_option maxRecDepth 100000 in
theorem dX17_label_18 : decode cX17_label 18 = .ok (.invokevirtual 50, 3) := by decide +kernel
set_option maxRecDepth 100000 in
theorem dX17_label_21 : decode cX17_label 21 = .ok (.checkcast 54, 3) := by decide +kernel
set_option maxRecDepth 100000 in
theorem dX17_label_24 : decode cX17_label 24 = .ok (.getfield 56, 3) := by decide +kernel
set_option maxRecDepth 100000 in
theorem dX17_label_27 : decode cX17_label 27 = .ok (.iload_n 1, 1) := by decide +kernel
set_option maxRecDepth 100000 in
theorem dX17_label_28 : decode cX17_label 28 = .ok (.if_icmp .ne 15, 3) := by decide +kernel
set_option maxRecDepth 100000 in
theorem dX17_label_31 : decode cX17_label 31 = .ok (.aload_n 0, 1) := by decide +kernel
set_option maxRecDepth 100000 in
theorem dX17_label_32 : decode cX17_label 32 = .ok (.getfield 14, 3) := by decide +kernel
set_option maxRecDepth 100000 in
theorem dX17_label_35 : decode cX17_label 35 = .ok (.iload_n 2, 1) := by decide +kernel
set_option maxRecDepth 100000 in
theorem dX17_label_36 : decode cX17_label 36 = .ok (.invokevirtual 50, 3) := by decide +kernel
set_option maxRecDepth 100000 in
theorem dX17_label_39 : decode cX17_label 39 = .ok (.checkcast 54, 3) := by decide +kernel
set_option maxRecDepth 100000 in
theorem dX17_label_42 : decode cX17_label 42 = .ok (.areturn, 1) := by decide +kernel
set_option maxRecDepth 100000 in
theorem dX17_label_43 : decode cX17_label 43 = .ok (.iinc 2 1, 3) := by decide +kernel
set_option maxRecDepth 100000 in
theorem dX17_label_46 : decode cX17_label 46 = .ok (.goto (-44), 3) := by decide +kernel
set_option maxRecDepth 100000 in
theorem dX17_label_49 : decode cX17_label 49 = .ok (.aconst_null, 1) := by decide +kernel
set_option maxRecDepth 100000 in
theorem dX17_label_50 : decode cX17_label 50 = .ok (.areturn, 1) := by decide +kernel
def lX17_label_2 (G : xG) (fr lo : Nat) (x0 : Nat) (x1 : Int32) (x2 : Int32) (h : xH) (Q : Outcome → xH → Prop) : Prop := xP G YX17_label fr lo 2 [(0, rv x0), (1, .int x1), (2, .int x2)] [] h Q
set_option maxRecDepth 100000 in
def bX17_label_2 (G : xG) (fr lo : Nat) (x0 : Nat) (x1 : Int32) (x2 : Int32) (h : xH) (Q : Outcome → xH → Prop) : Prop := tg h x0 = 18 ∧ tg h (fR h x0 4355) = 29 ∧ 1 ≤ fr ∧ 13 ≤ lo ∧ xRi G YJ2_size (fr - 1) (lo - 13) [rv (fR h x0 4355)] h (fun x6 h5 => xext h h5 → ((x6 ≤ x2 → Q (.returned (some (rv 0))) h5) ∧ (¬ x6 ≤ x2 → tg h5 (fR h5 x0 4355) = 29 ∧ 1 ≤ fr ∧ 13 ≤ lo ∧ xRr G YJ2_get (fr - 1) (lo - 13) [rv (fR h5 x0 4355), .int x2] h5 (fun x14 h13 => xext h5 h13 → tg h13 x14 = 19 ∧ ((¬ (fI h13 x14 4608) = x1 → lX17_label_2 G fr lo x0 x1 (x2 + 1) h13 Q) ∧ ((fI h13 x14 4608) = x1 → tg h13 (fR h13 x0 4355) = 29 ∧ 1 ≤ fr ∧ 13 ≤ lo ∧ xRr G YJ2_get (fr - 1) (lo - 13) [rv (fR h13 x0 4355), .int x2] h13 (fun x23 h22 => xext h13 h22 → tg h22 x23 = 19 ∧ Q (.returned (some (rv x23))) h22) (fun r h2 => Q (.threw r) h2)))) (fun r h2 => Q (.threw r) h2)))) (fun r h2 => Q (.threw r) h2)
set_option maxRecDepth 100000 in
theorem uX17_label_2 {G : xG} {fr lo : Nat} {x0 : Nat} {x1 : Int32} {x2 : Int32} {h : xH} {Q : Outcome → xH → Prop} (hq : bX17_label_2 G fr lo x0 x1 x2 h Q) : xP G YX17_label fr lo 2 [(0, rv x0), (1, .int x1), (2, .int x2)] [] h Q := by
  unfold bX17_label_2 at hq
  refine x_iload_n 2 dX17_label_2 rfl ?_
  refine x_aload_n 0 dX17_label_3 rfl ?_
  obtain ⟨g1, hq⟩ := hq
  refine x_get (v := rv (fR h x0 4355)) fdX17_14 dX17_label_4 g1 rfl ?_
  obtain ⟨g2, hq⟩ := hq
  obtain ⟨g3, g4, hq⟩ := hq
  refine x_callV (Yc := YJ2_size) (as := []) (st := [.int x2]) q2193 mvJ2_size g2 rfl dX17_label_7 (xle (xal1 (rv_cat _) xal0) (by decide)) (xfr g3) (xlo (xsw1 rfl xsw0) (by decide) g4) (xKi hq (fun x6 h5 hq e7 => ?_) (fun _ _ q _ => q))
  replace hq := hq e7
  refine x_icmp_ge (tgt := 49) dX17_label_10 (by decide) (fun c8 => ?_) (fun c8 => ?_)
  · replace hq := hq.1 c8
    refine x_null dX17_label_49 ?_
    exact x_aret rfl xty_O dX17_label_50 hq
  · replace hq := hq.2 c8
    refine x_aload_n 0 dX17_label_13 rfl ?_
    have t9 : tg h5 x0 = 18 := e7.tg g1 (by decide)
    refine x_get (v := rv (fR h5 x0 4355)) fdX17_14 dX17_label_14 t9 rfl ?_
    refine x_iload_n 2 dX17_label_17 rfl ?_
    obtain ⟨g10, hq⟩ := hq
    obtain ⟨g11, g12, hq⟩ := hq
    refine x_callV (Yc := YJ2_get) (as := [.int x2]) (st := []) q2194 mvJ2_get g10 rfl dX17_label_18 (xle (xal1 (rv_cat _) (xal1 rfl xal0)) (by decide)) (xfr g11) (xlo xsw0 (by decide) g12) (xKr hq (fun x14 h13 hq e15 => ?_) (fun _ _ q _ => q))
    replace hq := hq e15
    obtain ⟨g16, hq⟩ := hq
    refine x_cast (ci := 18) (by decide) rfl q2195 g16 dX17_label_21 ?_
    refine x_getN (v := .int (fI h13 x14 4608)) gfX17_56 dX17_label_24 g16 rfl ?_
    refine x_iload_n 1 dX17_label_27 rfl ?_
    refine x_icmp_ne (tgt := 43) dX17_label_28 (by decide) (fun c17 => ?_) (fun c17 => ?_)
    · replace hq := hq.1 c17
      refine x_iinc (lv' := [(2, .int (x2 + 1)), (0, rv x0), (1, .int x1)]) 2 dX17_label_43 rfl (by decide) rfl ?_
      refine x_goto (tgt := 2) dX17_label_46 (by decide) ?_
      refine xP.pick (lv' := [(0, rv x0), (1, .int x1), (2, .int (x2 + 1))]) [1, 2, 0] rfl ?_
      exact hq
    · replace hq := hq.2 c17
      refine x_aload_n 0 dX17_label_31 rfl ?_
      have t18 : tg h13 x0 = 18 := e15.tg t9 (by decide)
      refine x_get (v := rv (fR h13 x0 4355)) fdX17_14 dX17_label_32 t18 rfl ?_
      refine x_iload_n 2 dX17_label_35 rfl ?_
      obtain ⟨g19, hq⟩ := hq
      obtain ⟨g20, g21, hq⟩ := hq
      refine x_callV (Yc := YJ2_get) (as := [.int x2]) (st := []) q2194 mvJ2_get g19 rfl dX17_label_36 (xle (xal1 (rv_cat _) (xal1 rfl xal0)) (by decide)) (xfr g20) (xlo xsw0 (by decide) g21) (xKr hq (fun x23 h22 hq e24 => ?_) (fun _ _ q _ => q))
      replace hq := hq e24
      obtain ⟨g25, hq⟩ := hq
      refine x_cast (ci := 18) (by decide) rfl q2195 g25 dX17_label_39 ?_
      exact x_aret rfl xty_O dX17_label_42 hq
set_option maxRecDepth 100000 in
def bX17_label (G : xG) (fr lo : Nat) (x0 : Nat) (x1 : Int32) (h : xH) (Q : Outcome → xH → Prop) : Prop := lX17_label_2 G fr lo x0 x1 0 h Q
set_option maxRecDepth 100000 in
theorem uX17_label {G : xG} {fr lo : Nat} {x0 : Nat} {x1 : Int32} {h : xH} {Q : Outcome → xH → Prop} (hq : bX17_label G fr lo x0 x1 h Q) : xP G YX17_label fr lo 0 [(0, rv x0), (1, .int x1)] [] h Q := by
  unfold bX17_label at hq
  refine x_iconst (v := 0) dX17_label_0 (by decide) ?_
  refine x_istore_n (lv' := [(2, .int 0), (0, rv x0), (1, .int x1)]) dX17_label_1 (by decide) rfl ?_
  refine xP.pick (lv' := [(0, rv x0), (1, .int x1), (2, .int 0)]) [1, 2, 0] rfl ?_
  exact hq
theorem rX17_label {G : xG} {fr lo : Nat} {x0 : Nat} {x1 : Int32} {h : xH} {Q : Outcome → xH → Prop} (hq : bX17_label G fr lo x0 x1 h Q) : xR G YX17_label fr lo [rv x0, .int x1] h Q := by
  show xP _ _ _ _ _ (lv_args 0 _) _ _ _
  rw [show lv_args 0 [rv x0, .int x1] = [(0, rv x0), (1, .int x1)] from (xla1 (rv_cat _) (xla1 rfl xla0))]
  exact uX17_label hq
set_option maxRecDepth 100000 in
theorem dX17_leap_0 : decode cX17_leap 0 = .ok (.new 59, 3) := by decide +kernel
set_option maxRecDepth 100000 in
theorem dX17_leap_3 : decode cX17_leap 3 = .ok (.dup, 1) := by decide +kernel
set_option maxRecDepth 100000 in
theorem dX17_leap_4 : decode cX17_leap 4 = .ok (.aload_n 1, 1) := by decide +kernel
set_option maxRecDepth 100000 in
theorem dX17_leap_5 : decode cX17_leap 5 = .ok (.iload_n 2, 1) := by decide +kernel
set_option maxRecDepth 100000 in
theorem dX17_leap_6 : decode cX17_leap 6 = .ok (.iload_n 3, 1) := by decide +kernel
set_option maxRecDepth 100000 in
theorem dX17_leap_7 : decode cX17_leap 7 = .ok (.aload_n 0, 1) := by decide +kernel
set_option maxRecDepth 100000 in
theorem dX17_leap_8 : decode cX17_leap 8 = .ok (.getfield 23, 3) := by decide +kernel
set_option maxRecDepth 100000 in
theorem dX17_leap_11 : decode cX17_leap 11 = .ok (.aload_n 0, 1) := by decide +kernel
set_option maxRecDepth 100000 in
theorem dX17_leap_12 : decode cX17_leap 12 = .ok (.getfield 61, 3) := by decide +kernel
set_option maxRecDepth 100000 in
theorem dX17_leap_15 : decode cX17_leap 15 = .ok (.invokestatic 64, 3) := by decide +kernel
set_option maxRecDepth 100000 in
theorem dX17_leap_18 : decode cX17_leap 18 = .ok (.aload_n 0, 1) := by decide +kernel
set_option maxRecDepth 100000 in
theorem dX17_leap_19 : decode cX17_leap 19 = .ok (.getfield 27, 3) := by decide +kernel
set_option maxRecDepth 100000 in
theorem dX17_leap_22 : decode cX17_leap 22 = .ok (.aload_n 0, 1) := by decide +kernel
set_option maxRecDepth 100000 in
theorem dX17_leap_23 : decode cX17_leap 23 = .ok (.getfield 68, 3) := by decide +kernel
set_option maxRecDepth 100000 in
theorem dX17_leap_26 : decode cX17_leap 26 = .ok (.invokestatic 64, 3) := by decide +kernel
set_option maxRecDepth 100000 in
theorem dX17_leap_29 : decode cX17_leap 29 = .ok (.invokespecial 71, 3) := by decide +kernel
set_option maxRecDepth 100000 in
theorem dX17_leap_32 : decode cX17_leap 32 = .ok (.areturn, 1) := by decide +kernel
set_option maxRecDepth 100000 in
def bX17_leap (G : xG) (fr lo : Nat) (x0 : Nat) (x1 : Nat) (x2 : Int32) (x3 : Int32) (h : xH) (Q : Outcome → xH → Prop) : Prop := nx h + 1 ≤ xGN G ∧ us h + 5 ≤ xGU G ∧ (∀ (a3 : Nat) (h4 : xH), a3 = nx h + 1 → h4 = nO h 23 5 → xfresh h a3 → tg h4 x0 = 18 ∧ 1 ≤ fr ∧ 20 ≤ lo ∧ xRr G YX17_first (fr - 1) (lo - 20) [rv (fR h4 x0 4357), .int (fI h4 x0 4359)] h4 (fun x13 h12 => xext h4 h12 → 1 ≤ fr ∧ 21 ≤ lo ∧ xRr G YX17_first (fr - 1) (lo - 21) [rv (fR h12 x0 4358), .int (fI h12 x0 4360)] h12 (fun x19 h18 => xext h12 h18 → 1 ≤ fr ∧ 18 ≤ lo ∧ xRv G YX22_init (fr - 1) (lo - 18) [rv a3, rv x1, .int x2, .int x3, rv x13, rv x19] h18 (fun h25 => xext h18 h25 → Q (.returned (some (rv a3))) h25) (fun r h2 => Q (.threw r) h2)) (fun r h2 => Q (.threw r) h2)) (fun r h2 => Q (.threw r) h2))
set_option maxRecDepth 100000 in
theorem uX17_leap {G : xG} {fr lo : Nat} {x0 : Nat} {x1 : Nat} {x2 : Int32} {x3 : Int32} {h : xH} {Q : Outcome → xH → Prop} (hq : bX17_leap G fr lo x0 x1 x2 x3 h Q) : xP G YX17_leap fr lo 0 [(0, rv x0), (1, rv x1), (2, .int x2), (3, .int x3)] [] h Q := by
  unfold bX17_leap at hq
  obtain ⟨g1, g2, hq⟩ := hq
  obtain ⟨a3, e5⟩ : ∃ y, y = nx h + 1 := ⟨_, rfl⟩
  obtain ⟨h4, e6⟩ : ∃ y, y = nO h 23 5 := ⟨_, rfl⟩
  refine x_new' cdX17_59 dX17_leap_0 g1 g2 e5 e6 (fun f7 => ?_)
  replace hq := hq a3 h4 e5 e6 f7
  have t8 : tg h4 a3 = 23 := by rw [e6, e5]; exact tg_nO
  refine x_dup dX17_leap_3 (rv_cat _) ?_
  refine x_aload_n 1 dX17_leap_4 rfl ?_
  refine x_iload_n 2 dX17_leap_5 rfl ?_
  refine x_iload_n 3 dX17_leap_6 rfl ?_
  refine x_aload_n 0 dX17_leap_7 rfl ?_
  obtain ⟨g9, hq⟩ := hq
  refine x_get (v := rv (fR h4 x0 4357)) fdX17_23 dX17_leap_8 g9 rfl ?_
  refine x_aload_n 0 dX17_leap_11 rfl ?_
  refine x_get (v := .int (fI h4 x0 4359)) fdX17_61 dX17_leap_12 g9 rfl ?_
  obtain ⟨g10, g11, hq⟩ := hq
  refine x_callS (Yc := YX17_first) (as := [rv (fR h4 x0 4357), .int (fI h4 x0 4359)]) (st := [.int x3, .int x2, rv x1, rv a3, rv a3]) q2734 msX17_first rfl dX17_leap_15 (xle (xal1 (rv_cat _) (xal1 rfl xal0)) (by decide)) (xfr g10) (xlo (xsw1 rfl (xsw1 rfl (xsw1 (rv_cat _) (xsw1 (rv_cat _) (xsw1 (rv_cat _) xsw0))))) (by decide) g11) (xKr hq (fun x13 h12 hq e14 => ?_) (fun _ _ q _ => q))
  replace hq := hq e14
  refine x_aload_n 0 dX17_leap_18 rfl ?_
  have t15 : tg h12 x0 = 18 := e14.tg g9 (by decide)
  refine x_get (v := rv (fR h12 x0 4358)) fdX17_27 dX17_leap_19 t15 rfl ?_
  refine x_aload_n 0 dX17_leap_22 rfl ?_
  refine x_get (v := .int (fI h12 x0 4360)) fdX17_68 dX17_leap_23 t15 rfl ?_
  obtain ⟨g16, g17, hq⟩ := hq
  refine x_callS (Yc := YX17_first) (as := [rv (fR h12 x0 4358), .int (fI h12 x0 4360)]) (st := [rv x13, .int x3, .int x2, rv x1, rv a3, rv a3]) q2734 msX17_first rfl dX17_leap_26 (xle (xal1 (rv_cat _) (xal1 rfl xal0)) (by decide)) (xfr g16) (xlo (xsw1 (rv_cat _) (xsw1 rfl (xsw1 rfl (xsw1 (rv_cat _) (xsw1 (rv_cat _) (xsw1 (rv_cat _) xsw0)))))) (by decide) g17) (xKr hq (fun x19 h18 hq e20 => ?_) (fun _ _ q _ => q))
  replace hq := hq e20
  have t21 : tg h12 a3 = 23 := e14.tg t8 (by decide)
  have t22 : tg h18 a3 = 23 := e20.tg t21 (by decide)
  obtain ⟨g23, g24, hq⟩ := hq
  refine x_callI (Yc := YX22_init) (as := [rv x1, .int x2, .int x3, rv x13, rv x19]) (st := [rv a3]) q2737 miX22_init (by rw [t22]; decide) rfl dX17_leap_29 (xle (xal1 (rv_cat _) (xal1 (rv_cat _) (xal1 rfl (xal1 rfl (xal1 (rv_cat _) (xal1 (rv_cat _) xal0)))))) (by decide)) (xfr g23) (xlo (xsw1 (rv_cat _) xsw0) (by decide) g24) (xKv hq (fun h25 hq e27 => ?_) (fun _ _ q _ => q))
  replace hq := hq e27
  exact x_aret rfl xty_O dX17_leap_32 hq
theorem rX17_leap {G : xG} {fr lo : Nat} {x0 : Nat} {x1 : Nat} {x2 : Int32} {x3 : Int32} {h : xH} {Q : Outcome → xH → Prop} (hq : bX17_leap G fr lo x0 x1 x2 x3 h Q) : xR G YX17_leap fr lo [rv x0, rv x1, .int x2, .int x3] h Q := by
  show xP _ _ _ _ _ (lv_args 0 _) _ _ _
  rw [show lv_args 0 [rv x0, rv x1, .int x2, .int x3] = [(0, rv x0), (1, rv x1), (2, .int x2), (3, .int x3)] from (xla1 (rv_cat _) (xla1 (rv_cat _) (xla1 rfl (xla1 rfl xla0))))]
  exact uX17_leap hq
set_option maxRecDepth 100000 in
theorem dX17_first_0 : decode cX17_first 0 = .ok (.iload_n 1, 1) := by decide +kernel
set_option maxRecDepth 100000 in
theorem dX17_first_1 : decode cX17_first 1 = .ok (.newarray .int, 2) := by decide +kernel
set_option maxRecDepth 100000 in
theorem dX17_first_3 : decode cX17_first 3 = .ok (.astore_n 2, 1) := by decide +kernel
set_option maxRecDepth 100000 in
theorem dX17_first_4 : decode cX17_first 4 = .ok (.iconst 0, 1) := by decide +kernel
set_option maxRecDepth 100000 in
theorem dX17_first_5 : decode cX17_first 5 = .ok (.istore_n 3, 1) := by decide +kernel
set_option maxRecDepth 100000 in
theorem dX17_first_6 : decode cX17_first 6 = .ok (.iload_n 3, 1) := by decide +kernel
set_option maxRecDepth 100000 in
theorem dX17_first_7 : decode cX17_first 7 = .ok (.iload_n 1, 1) := by decide +kernel
set_option maxRecDepth 100000 in
theorem dX17_first_8 : decode cX17_first 8 = .ok (.if_icmp .ge 15, 3) := by decide +kernel
set_option maxRecDepth 100000 in
theorem dX17_first_11 : decode cX17_first 11 = .ok (.aload_n 2, 1) := by decide +kernel
set_option maxRecDepth 100000 in
theorem dX17_first_12 : decode cX17_first 12 = .ok (.iload_n 3, 1) := by decide +kernel
set_option maxRecDepth 100000 in
theorem dX17_first_13 : decode cX17_first 13 = .ok (.aload_n 0, 1) := by decide +kernel
set_option maxRecDepth 100000 in
theorem dX17_first_14 : decode cX17_first 14 = .ok (.iload_n 3, 1) := by decide +kernel
set_option maxRecDepth 100000 in
theorem dX17_first_15 : decode cX17_first 15 = .ok (.iaload, 1) := by decide +kernel
set_option maxRecDepth 100000 in
theorem dX17_first_16 : decode cX17_first 16 = .ok (.iastore, 1) := by decide +kernel
set_option maxRecDepth 100000 in
theorem dX17_first_17 : decode cX17_first 17 = .ok (.iinc 3 1, 3) := by decide +kernel
set_option maxRecDepth 100000 in
theorem dX17_first_20 : decode cX17_first 20 = .ok (.goto (-14), 3) := by decide +kernel
set_option maxRecDepth 100000 in
theorem dX17_first_23 : decode cX17_first 23 = .ok (.aload_n 2, 1) := by decide +kernel
set_option maxRecDepth 100000 in
theorem dX17_first_24 : decode cX17_first 24 = .ok (.areturn, 1) := by decide +kernel
def lX17_first_6 (G : xG) (fr lo : Nat) (x0 : Nat) (x1 : Int32) (x2 : Nat) (x3 : Int32) (h : xH) (Q : Outcome → xH → Prop) : Prop := xP G YX17_first fr lo 6 [(0, rv x0), (1, .int x1), (2, rv x2), (3, .int x3)] [] h Q
set_option maxRecDepth 100000 in
def bX17_first_6 (G : xG) (fr lo : Nat) (x0 : Nat) (x1 : Int32) (x2 : Nat) (x3 : Int32) (h : xH) (Q : Outcome → xH → Prop) : Prop := ((x1 ≤ x3 → Q (.returned (some (rv x2))) h) ∧ (¬ x1 ≤ x3 → tg h x0 = 100 ∧ vp_in x3 (ln h x0) ∧ tg h x2 = 100 ∧ vp_in x3 (ln h x2) ∧ (∀ h6 : xH, h6 = tI h x2 (Int32.toNatClampNeg x3) (aI h x0 (Int32.toNatClampNeg x3)) → lX17_first_6 G fr lo x0 x1 x2 (x3 + 1) h6 Q)))
set_option maxRecDepth 100000 in
theorem uX17_first_6 {G : xG} {fr lo : Nat} {x0 : Nat} {x1 : Int32} {x2 : Nat} {x3 : Int32} {h : xH} {Q : Outcome → xH → Prop} (hq : bX17_first_6 G fr lo x0 x1 x2 x3 h Q) : xP G YX17_first fr lo 6 [(0, rv x0), (1, .int x1), (2, rv x2), (3, .int x3)] [] h Q := by
  unfold bX17_first_6 at hq
  refine x_iload_n 3 dX17_first_6 rfl ?_
  refine x_iload_n 1 dX17_first_7 rfl ?_
  refine x_icmp_ge (tgt := 23) dX17_first_8 (by decide) (fun c1 => ?_) (fun c1 => ?_)
  · replace hq := hq.1 c1
    refine x_aload_n 2 dX17_first_23 rfl ?_
    exact x_aret rfl xty_A dX17_first_24 hq
  · replace hq := hq.2 c1
    refine x_aload_n 2 dX17_first_11 rfl ?_
    refine x_iload_n 3 dX17_first_12 rfl ?_
    refine x_aload_n 0 dX17_first_13 rfl ?_
    refine x_iload_n 3 dX17_first_14 rfl ?_
    obtain ⟨g2, hq⟩ := hq
    obtain ⟨i3, hq⟩ := hq
    refine x_iald 0 (Or.inl rfl) g2 i3 dX17_first_15 ?_
    obtain ⟨g4, hq⟩ := hq
    obtain ⟨i5, hq⟩ := hq
    obtain ⟨h6, e7⟩ : ∃ y, y = tI h x2 (Int32.toNatClampNeg x3) (aI h x0 (Int32.toNatClampNeg x3)) := ⟨_, rfl⟩
    replace hq := hq h6 e7
    refine x_iast' g4 i5 dX17_first_16 e7 ?_
    refine x_iinc (lv' := [(3, .int (x3 + 1)), (0, rv x0), (1, .int x1), (2, rv x2)]) 3 dX17_first_17 rfl (by decide) (by first | rfl | (simp [rv_cat, Value.category]; done) | (simp [rv_cat, Value.category]; decide)) ?_
    refine x_goto (tgt := 6) dX17_first_20 (by decide) ?_
    refine xP.pick (lv' := [(0, rv x0), (1, .int x1), (2, rv x2), (3, .int (x3 + 1))]) [1, 2, 3, 0] rfl ?_
    exact hq
set_option maxRecDepth 100000 in
def bX17_first (G : xG) (fr lo : Nat) (x0 : Nat) (x1 : Int32) (h : xH) (Q : Outcome → xH → Prop) : Prop := ¬ x1 < 0 ∧ Int32.toNatClampNeg x1 ≤ 1000000 ∧ nx h + 1 ≤ xGN G ∧ us h + (Int32.toNatClampNeg x1) ≤ xGU G ∧ (∀ (a5 : Nat) (h6 : xH), a5 = nx h + 1 → h6 = nA h 100 (Int32.toNatClampNeg x1) → xfresh h a5 → lX17_first_6 G fr lo x0 x1 a5 0 h6 Q)
set_option maxRecDepth 100000 in
theorem uX17_first {G : xG} {fr lo : Nat} {x0 : Nat} {x1 : Int32} {h : xH} {Q : Outcome → xH → Prop} (hq : bX17_first G fr lo x0 x1 h Q) : xP G YX17_first fr lo 0 [(0, rv x0), (1, .int x1)] [] h Q := by
  unfold bX17_first at hq
  refine x_iload_n 1 dX17_first_0 rfl ?_
  obtain ⟨g1, g2, hq⟩ := hq
  obtain ⟨g3, g4, hq⟩ := hq
  obtain ⟨a5, e7⟩ : ∃ y, y = nx h + 1 := ⟨_, rfl⟩
  obtain ⟨h6, e8⟩ : ∃ y, y = nA h 100 (Int32.toNatClampNeg x1) := ⟨_, rfl⟩
  refine x_newa' 0 pk_int dX17_first_1 g1 g2 g3 g4 e7 e8 (fun f9 => ?_)
  replace hq := hq a5 h6 e7 e8 f9
  have t10 : tg h6 a5 = 100 := by rw [e8, e7]; exact tg_nA
  refine x_astore_n (lv' := [(2, rv a5), (0, rv x0), (1, .int x1)]) dX17_first_3 (by decide) rfl ?_
  refine x_iconst (v := 0) dX17_first_4 (by decide) ?_
  refine x_istore_n (lv' := [(3, .int 0), (2, rv a5), (0, rv x0), (1, .int x1)]) dX17_first_5 (by decide) (by first | rfl | (simp [rv_cat, Value.category]; done) | (simp [rv_cat, Value.category]; decide)) ?_
  refine xP.pick (lv' := [(0, rv x0), (1, .int x1), (2, rv a5), (3, .int 0)]) [2, 3, 1, 0] rfl ?_
  exact hq
theorem rX17_first {G : xG} {fr lo : Nat} {x0 : Nat} {x1 : Int32} {h : xH} {Q : Outcome → xH → Prop} (hq : bX17_first G fr lo x0 x1 h Q) : xR G YX17_first fr lo [rv x0, .int x1] h Q := by
  show xP _ _ _ _ _ (lv_args 0 _) _ _ _
  rw [show lv_args 0 [rv x0, .int x1] = [(0, rv x0), (1, .int x1)] from (xla1 (rv_cat _) (xla1 rfl xla0))]
  exact uX17_first hq
