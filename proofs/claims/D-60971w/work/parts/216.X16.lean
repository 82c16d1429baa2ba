/-! PascalHouse$Routine, walked (1) -/
set_option maxRecDepth 100000 in
theorem dX16_init_0 : decode cX16_init 0 = .ok (.aload_n 0, 1) := by decide +kernel
set_option maxRecDepth 100000 in
theorem dX16_init_1 : decode cX16_init 1 = .ok (.invokespecial 3, 3) := by decide +kernel
set_option maxRecDepth 100000 in
theorem dX16_init_4 : decode cX16_init 4 = .ok (.aload_n 0, 1) := by decide +kernel
set_option maxRecDepth 100000 in
theorem dX16_init_5 : decode cX16_init 5 = .ok (.new 9, 3) := by decide +kernel
set_option maxRecDepth 100000 in
theorem dX16_init_8 : decode cX16_init 8 = .ok (.dup, 1) := by decide +kernel
set_option maxRecDepth 100000 in
theorem dX16_init_9 : decode cX16_init 9 = .ok (.iconst 0, 1) := by decide +kernel
set_option maxRecDepth 100000 in
theorem dX16_init_10 : decode cX16_init 10 = .ok (.invokespecial 11, 3) := by decide +kernel
set_option maxRecDepth 100000 in
theorem dX16_init_13 : decode cX16_init 13 = .ok (.putfield 14, 3) := by decide +kernel
set_option maxRecDepth 100000 in
theorem dX16_init_16 : decode cX16_init 16 = .ok (.aload_n 0, 1) := by decide +kernel
set_option maxRecDepth 100000 in
theorem dX16_init_17 : decode cX16_init 17 = .ok (.iconst (-1), 1) := by decide +kernel
set_option maxRecDepth 100000 in
theorem dX16_init_18 : decode cX16_init 18 = .ok (.putfield 20, 3) := by decide +kernel
set_option maxRecDepth 100000 in
theorem dX16_init_21 : decode cX16_init 21 = .ok (.aload_n 0, 1) := by decide +kernel
set_option maxRecDepth 100000 in
theorem dX16_init_22 : decode cX16_init 22 = .ok (.new 9, 3) := by decide +kernel
set_option maxRecDepth 100000 in
theorem dX16_init_25 : decode cX16_init 25 = .ok (.dup, 1) := by decide +kernel
set_option maxRecDepth 100000 in
theorem dX16_init_26 : decode cX16_init 26 = .ok (.iconst 0, 1) := by decide +kernel
set_option maxRecDepth 100000 in
theorem dX16_init_27 : decode cX16_init 27 = .ok (.invokespecial 11, 3) := by decide +kernel
set_option maxRecDepth 100000 in
theorem dX16_init_30 : decode cX16_init 30 = .ok (.putfield 24, 3) := by decide +kernel
set_option maxRecDepth 100000 in
theorem dX16_init_33 : decode cX16_init 33 = .ok (.aload_n 0, 1) := by decide +kernel
set_option maxRecDepth 100000 in
theorem dX16_init_34 : decode cX16_init 34 = .ok (.aload_n 1, 1) := by decide +kernel
set_option maxRecDepth 100000 in
theorem dX16_init_35 : decode cX16_init 35 = .ok (.putfield 27, 3) := by decide +kernel
set_option maxRecDepth 100000 in
theorem dX16_init_38 : decode cX16_init 38 = .ok (.aload_n 0, 1) := by decide +kernel
set_option maxRecDepth 100000 in
theorem dX16_init_39 : decode cX16_init 39 = .ok (.iload_n 2, 1) := by decide +kernel
set_option maxRecDepth 100000 in
theorem dX16_init_40 : decode cX16_init 40 = .ok (.putfield 31, 3) := by decide +kernel
set_option maxRecDepth 100000 in
theorem dX16_init_43 : decode cX16_init 43 = .ok (.aload_n 0, 1) := by decide +kernel
set_option maxRecDepth 100000 in
theorem dX16_init_44 : decode cX16_init 44 = .ok (.iload_n 3, 1) := by decide +kernel
set_option maxRecDepth 100000 in
theorem dX16_init_45 : decode cX16_init 45 = .ok (.putfield 35, 3) := by decide +kernel
set_option maxRecDepth 100000 in
theorem dX16_init_48 : decode cX16_init 48 = .ok (.return_, 1) := by decide +kernel
set_option maxRecDepth 100000 in
def bX16_init (G : xG) (fr lo : Nat) (x0 : Nat) (x1 : Nat) (x2 : Int32) (x3 : Int32) (h : xH) (Q : Outcome → xH → Prop) : Prop := tg h x0 = 17 ∧ 1 ≤ fr ∧ 12 ≤ lo ∧ nx h + 1 ≤ xGN G ∧ us h + 3 ≤ xGU G ∧ (∀ (a6 : Nat) (h7 : xH), a6 = nx h + 1 → h7 = nO h 29 3 → xfresh h a6 → 1 ≤ fr ∧ 15 ≤ lo ∧ xRv G YJ2_init (fr - 1) (lo - 15) [rv a6, .int 0] h7 (fun h14 => xext h7 h14 → (∀ h19 : xH, h19 = sR h14 x0 4099 a6 → (∀ h22 : xH, h22 = sI h19 x0 4103 (-1) → nx h22 + 1 ≤ xGN G ∧ us h22 + 3 ≤ xGU G ∧ (∀ (a26 : Nat) (h27 : xH), a26 = nx h22 + 1 → h27 = nO h22 29 3 → xfresh h22 a26 → 1 ≤ fr ∧ 15 ≤ lo ∧ xRv G YJ2_init (fr - 1) (lo - 15) [rv a26, .int 0] h27 (fun h34 => xext h27 h34 → (∀ h40 : xH, h40 = sR h34 x0 4111 a26 → (∀ h43 : xH, h43 = sR h40 x0 4096 x1 → xbz x2 ∧ (∀ h47 : xH, h47 = sI h43 x0 4097 x2 → (∀ h50 : xH, h50 = sI h47 x0 4098 x3 → Q (.returned none) h50))))) (fun r h2 => Q (.threw r) h2))))) (fun r h2 => Q (.threw r) h2))
set_option maxRecDepth 100000 in
theorem uX16_init {G : xG} {fr lo : Nat} {x0 : Nat} {x1 : Nat} {x2 : Int32} {x3 : Int32} {h : xH} {Q : Outcome → xH → Prop} (hq : bX16_init G fr lo x0 x1 x2 x3 h Q) : xP G YX16_init fr lo 0 [(0, rv x0), (1, rv x1), (2, .int x2), (3, .int x3)] [] h Q := by
  unfold bX16_init at hq
  refine x_aload_n 0 dX16_init_0 rfl ?_
  obtain ⟨g1, hq⟩ := hq
  obtain ⟨g2, g3, hq⟩ := hq
  refine x_objInit (by rw [g1]; decide) q2020 q438 q439 dX16_init_1 g2 (by simp only [List.map_cons, List.map_nil, List.sum_cons, List.sum_nil, rv_cat, Value.category]; omega) ?_
  refine x_aload_n 0 dX16_init_4 rfl ?_
  obtain ⟨g4, g5, hq⟩ := hq
  obtain ⟨a6, e8⟩ : ∃ y, y = nx h + 1 := ⟨_, rfl⟩
  obtain ⟨h7, e9⟩ : ∃ y, y = nO h 29 3 := ⟨_, rfl⟩
  refine x_new' cdX16_9 dX16_init_5 g4 g5 e8 e9 (fun f10 => ?_)
  replace hq := hq a6 h7 e8 e9 f10
  have t11 : tg h7 a6 = 29 := by rw [e9, e8]; exact tg_nO
  refine x_dup dX16_init_8 (rv_cat _) ?_
  refine x_iconst (v := 0) dX16_init_9 (by decide) ?_
  obtain ⟨g12, g13, hq⟩ := hq
  refine x_callI (Yc := YJ2_init) (as := [.int 0]) (st := [rv a6, rv x0]) q2022 miJ2_init (by rw [t11]; decide) rfl dX16_init_10 (xle (xal1 (rv_cat _) (xal1 rfl xal0)) (by decide)) (xfr g12) (xlo (xsw1 (rv_cat _) (xsw1 (rv_cat _) xsw0)) (by decide) g13) (xKv hq (fun h14 hq e16 => ?_) (fun _ _ q _ => q))
  replace hq := hq e16
  have t17 : tg h7 x0 = 17 := by rw [e9]; exact tg_nO_ne e8 f10 g1 (by decide)
  have t18 : tg h14 x0 = 17 := e16.tg t17 (by decide)
  obtain ⟨h19, e20⟩ : ∃ y, y = sR h14 x0 4099 a6 := ⟨_, rfl⟩
  replace hq := hq h19 e20
  refine x_putFR fdX16_14 owX16_init_3 xty_O dX16_init_13 t18 (Or.inl (by rw [t18]; rfl)) rfl e20 ?_
  refine x_aload_n 0 dX16_init_16 rfl ?_
  refine x_iconst (v := (-1)) dX16_init_17 (by decide) ?_
  have t21 : tg h19 x0 = 17 := by rw [e20]; exact t18
  obtain ⟨h22, e23⟩ : ∃ y, y = sI h19 x0 4103 (-1) := ⟨_, rfl⟩
  replace hq := hq h22 e23
  refine x_putI fdX16_20 xty_I1 dX16_init_18 t21 (Or.inl (by rw [t21]; rfl)) xnI rfl e23 ?_
  refine x_aload_n 0 dX16_init_21 rfl ?_
  obtain ⟨g24, g25, hq⟩ := hq
  obtain ⟨a26, e28⟩ : ∃ y, y = nx h22 + 1 := ⟨_, rfl⟩
  obtain ⟨h27, e29⟩ : ∃ y, y = nO h22 29 3 := ⟨_, rfl⟩
  refine x_new' cdX16_9 dX16_init_22 g24 g25 e28 e29 (fun f30 => ?_)
  replace hq := hq a26 h27 e28 e29 f30
  have t31 : tg h27 a26 = 29 := by rw [e29, e28]; exact tg_nO
  refine x_dup dX16_init_25 (rv_cat _) ?_
  refine x_iconst (v := 0) dX16_init_26 (by decide) ?_
  obtain ⟨g32, g33, hq⟩ := hq
  refine x_callI (Yc := YJ2_init) (as := [.int 0]) (st := [rv a26, rv x0]) q2022 miJ2_init (by rw [t31]; decide) rfl dX16_init_27 (xle (xal1 (rv_cat _) (xal1 rfl xal0)) (by decide)) (xfr g32) (xlo (xsw1 (rv_cat _) (xsw1 (rv_cat _) xsw0)) (by decide) g33) (xKv hq (fun h34 hq e36 => ?_) (fun _ _ q _ => q))
  replace hq := hq e36
  have t37 : tg h22 x0 = 17 := by rw [e23]; exact t21
  have t38 : tg h27 x0 = 17 := by rw [e29]; exact tg_nO_ne e28 f30 t37 (by decide)
  have t39 : tg h34 x0 = 17 := e36.tg t38 (by decide)
  obtain ⟨h40, e41⟩ : ∃ y, y = sR h34 x0 4111 a26 := ⟨_, rfl⟩
  replace hq := hq h40 e41
  refine x_putFR fdX16_24 owX16_init_15 xty_O dX16_init_30 t39 (Or.inl (by rw [t39]; rfl)) rfl e41 ?_
  refine x_aload_n 0 dX16_init_33 rfl ?_
  refine x_aload_n 1 dX16_init_34 rfl ?_
  have t42 : tg h40 x0 = 17 := by rw [e41]; exact t39
  obtain ⟨h43, e44⟩ : ∃ y, y = sR h40 x0 4096 x1 := ⟨_, rfl⟩
  replace hq := hq h43 e44
  refine x_putFR fdX16_27 owX16_init_0 xty_O dX16_init_35 t42 (Or.inl (by rw [t42]; rfl)) rfl e44 ?_
  refine x_aload_n 0 dX16_init_38 rfl ?_
  refine x_iload_n 2 dX16_init_39 rfl ?_
  have t45 : tg h43 x0 = 17 := by rw [e44]; exact t42
  obtain ⟨g46, hq⟩ := hq
  obtain ⟨h47, e48⟩ : ∃ y, y = sI h43 x0 4097 x2 := ⟨_, rfl⟩
  replace hq := hq h47 e48
  refine x_putFI fdX16_31 owX16_init_1 xty_Z1 dX16_init_40 t45 (Or.inl (by rw [t45]; rfl)) (xnB g46) rfl e48 ?_
  refine x_aload_n 0 dX16_init_43 rfl ?_
  refine x_iload_n 3 dX16_init_44 rfl ?_
  have t49 : tg h47 x0 = 17 := by rw [e48]; exact t45
  obtain ⟨h50, e51⟩ : ∃ y, y = sI h47 x0 4098 x3 := ⟨_, rfl⟩
  replace hq := hq h50 e51
  refine x_putFI fdX16_35 owX16_init_2 xty_I1 dX16_init_45 t49 (Or.inl (by rw [t49]; rfl)) xnI rfl e51 ?_
  exact x_vret rfl dX16_init_48 hq
theorem rX16_init {G : xG} {fr lo : Nat} {x0 : Nat} {x1 : Nat} {x2 : Int32} {x3 : Int32} {h : xH} {Q : Outcome → xH → Prop} (hq : bX16_init G fr lo x0 x1 x2 x3 h Q) : xR G YX16_init fr lo [rv x0, rv x1, .int x2, .int x3] h Q := by
  show xP _ _ _ _ _ (lv_args 0 _) _ _ _
  rw [show lv_args 0 [rv x0, rv x1, .int x2, .int x3] = [(0, rv x0), (1, rv x1), (2, .int x2), (3, .int x3)] from (xla1 (rv_cat _) (xla1 (rv_cat _) (xla1 rfl (xla1 rfl xla0))))]
  exact uX16_init hq
set_option maxRecDepth 100000 in
theorem dX16_isLike_0 : decode cX16_isLike 0 = .ok (.aload_n 0, 1) := by decide +kernel
set_option maxRecDepth 100000 in
theorem dX16_isLike_1 : decode cX16_isLike 1 = .ok (.getfield 31, 3) := by decide +kernel
set_option maxRecDepth 100000 in
theorem dX16_isLike_4 : decode cX16_isLike 4 = .ok (.aload_n 1, 1) := by decide +kernel
set_option maxRecDepth 100000 in
theorem dX16_isLike_5 : decode cX16_isLike 5 = .ok (.getfield 31, 3) := by decide +kernel
set_option maxRecDepth 100000 in
theorem dX16_isLike_8 : decode cX16_isLike 8 = .ok (.if_icmp .ne 31, 3) := by decide +kernel
set_option maxRecDepth 100000 in
theorem dX16_isLike_11 : decode cX16_isLike 11 = .ok (.aload_n 0, 1) := by decide +kernel
set_option maxRecDepth 100000 in
theorem dX16_isLike_12 : decode cX16_isLike 12 = .ok (.getfield 38, 3) := by decide +kernel
set_option maxRecDepth 100000 in
theorem dX16_isLike_15 : decode cX16_isLike 15 = .ok (.aload_n 1, 1) := by decide +kernel
set_option maxRecDepth 100000 in
theorem dX16_isLike_16 : decode cX16_isLike 16 = .ok (.getfield 38, 3) := by decide +kernel
set_option maxRecDepth 100000 in
theorem dX16_isLike_19 : decode cX16_isLike 19 = .ok (.if_acmp .ne 20, 3) := by decide +kernel
set_option maxRecDepth 100000 in
theorem dX16_isLike_22 : decode cX16_isLike 22 = .ok (.aload_n 0, 1) := by decide +kernel
set_option maxRecDepth 100000 in
theorem dX16_isLike_23 : decode cX16_isLike 23 = .ok (.getfield 14, 3) := by decide +kernel
set_option maxRecDepth 100000 in
theorem dX16_isLike_26 : decode cX16_isLike 26 = .ok (.invokevirtual 42, 3) := by decide +kernel
set_option maxRecDepth 100000 in
theorem dX16_isLike_29 : decode cX16_isLike 29 = .ok (.aload_n 1, 1) := by decide +kernel
set_option maxRecDepth 100000 in
theorem dX16_isLike_30 : decode cX16_isLike 30 = .ok (.getfield 14, 3) := by decide +kernel
set_option maxRecDepth 100000 in
theorem dX16_isLike_33 : decode cX16_isLike 33 = .ok (.invokevirtual 42, 3) := by decide +kernel
set_option maxRecDepth 100000 in
theorem dX16_isLike_36 : decode cX16_isLike 36 = .ok (.if_icmp .eq 5, 3) := by decide +kernel
set_option maxRecDepth 100000 in
theorem dX16_isLike_39 : decode cX16_isLike 39 = .ok (.iconst 0, 1) := by decide +kernel
set_option maxRecDepth 100000 in
theorem dX16_isLike_40 : decode cX16_isLike 40 = .ok (.ireturn, 1) := by decide +kernel
set_option maxRecDepth 100000 in
theorem dX16_isLike_41 : decode cX16_isLike 41 = .ok (.iconst 1, 1) := by decide +kernel
set_option maxRecDepth 100000 in
theorem dX16_isLike_42 : decode cX16_isLike 42 = .ok (.istore_n 2, 1) := by decide +kernel
set_option maxRecDepth 100000 in
theorem dX16_isLike_43 : decode cX16_isLike 43 = .ok (.iconst 0, 1) := by decide +kernel
set_option maxRecDepth 100000 in
theorem dX16_isLike_44 : decode cX16_isLike 44 = .ok (.istore_n 3, 1) := by decide +kernel
set_option maxRecDepth 100000 in
theorem dX16_isLike_45 : decode cX16_isLike 45 = .ok (.iload_n 3, 1) := by decide +kernel
set_option maxRecDepth 100000 in
theorem dX16_isLike_46 : decode cX16_isLike 46 = .ok (.aload_n 0, 1) := by decide +kernel
set_option maxRecDepth 100000 in
theorem dX16_isLike_47 : decode cX16_isLike 47 = .ok (.getfield 14, 3) := by decide +kernel
set_option maxRecDepth 100000 in
theorem dX16_isLike_50 : decode cX16_isLike 50 = .ok (.invokevirtual 42, 3) := by decide +kernel
set_option maxRecDepth 100000 in
theorem dX16_isLike_53 : decode cX16_isLike 53 = .ok (.if_icmp .ge 96, 3) := by decide +kernel
set_option maxRecDepth 100000 in
theorem dX16_isLike_56 : decode cX16_isLike 56 = .ok (.iload_n 2, 1) := by decide +kernel
set_option maxRecDepth 100000 in
theorem dX16_isLike_57 : decode cX16_isLike 57 = .ok (.ifCond .eq 92, 3) := by decide +kernel
set_option maxRecDepth 100000 in
theorem dX16_isLike_60 : decode cX16_isLike 60 = .ok (.aload_n 0, 1) := by decide +kernel
set_option maxRecDepth 100000 in
theorem dX16_isLike_61 : decode cX16_isLike 61 = .ok (.getfield 14, 3) := by decide +kernel
set_option maxRecDepth 100000 in
theorem dX16_isLike_64 : decode cX16_isLike 64 = .ok (.iload_n 3, 1) := by decide +kernel
set_option maxRecDepth 100000 in
theorem dX16_isLike_65 : decode cX16_isLike 65 = .ok (.invokevirtual 46, 3) := by decide +kernel
set_option maxRecDepth 100000 in
theorem dX16_isLike_68 : decode cX16_isLike 68 = .ok (.checkcast 50, 3) := by decide +kernel
set_option maxRecDepth 100000 in
theorem dX16_isLike_71 : decode cX16_isLike 71 = .ok (.astore 4, 2) := by decide +kernel
set_option maxRecDepth 100000 in
theorem dX16_isLike_73 : decode cX16_isLike 73 = .ok (.aload_n 1, 1) := by decide +kernel
set_option maxRecDepth 100000 in
theorem dX16_isLike_74 : decode cX16_isLike 74 = .ok (.getfield 14, 3) := by decide +kernel
set_option maxRecDepth 100000 in
theorem dX16_isLike_77 : decode cX16_isLike 77 = .ok (.iload_n 3, 1) := by decide +kernel
set_option maxRecDepth 100000 in
theorem dX16_isLike_78 : decode cX16_isLike 78 = .ok (.invokevirtual 46, 3) := by decide +kernel
set_option maxRecDepth 100000 in
theorem dX16_isLike_81 : decode cX16_isLike 81 = .ok (.checkcast 50, 3) := by decide +kernel
set_option maxRecDepth 100000 in
theorem dX16_isLike_84 : decode cX16_isLike 84 = .ok (.astore 5, 2) := by decide +kernel
set_option maxRecDepth 100000 in
theorem dX16_isLike_86 : decode cX16_isLike 86 = .ok (.aload 4, 2) := by decide +kernel
set_option maxRecDepth 100000 in
theorem dX16_isLike_88 : decode cX16_isLike 88 = .ok (.getfield 52, 3) := by decide +kernel
set_option maxRecDepth 100000 in
theorem dX16_isLike_91 : decode cX16_isLike 91 = .ok (.aload 5, 2) := by decide +kernel
set_option maxRecDepth 100000 in
theorem dX16_isLike_93 : decode cX16_isLike 93 = .ok (.getfield 52, 3) := by decide +kernel
set_option maxRecDepth 100000 in
theorem dX16_isLike_96 : decode cX16_isLike 96 = .ok (.if_icmp .ne 45, 3) := by decide +kernel
set_option maxRecDepth 100000 in
theorem dX16_isLike_99 : decode cX16_isLike 99 = .ok (.aload 4, 2) := by decide +kernel
set_option maxRecDepth 100000 in
theorem dX16_isLike_101 : decode cX16_isLike 101 = .ok (.getfield 55, 3) := by decide +kernel
set_option maxRecDepth 100000 in
theorem dX16_isLike_104 : decode cX16_isLike 104 = .ok (.aload 5, 2) := by decide +kernel
set_option maxRecDepth 100000 in
theorem dX16_isLike_106 : decode cX16_isLike 106 = .ok (.getfield 55, 3) := by decide +kernel
set_option maxRecDepth 100000 in
theorem dX16_isLike_109 : decode cX16_isLike 109 = .ok (.if_acmp .ne 32, 3) := by decide +kernel
set_option maxRecDepth 100000 in
theorem dX16_isLike_112 : decode cX16_isLike 112 = .ok (.aload 4, 2) := by decide +kernel
set_option maxRecDepth 100000 in
theorem dX16_isLike_114 : decode cX16_isLike 114 = .ok (.getfield 52, 3) := by decide +kernel
set_option maxRecDepth 100000 in
theorem dX16_isLike_117 : decode cX16_isLike 117 = .ok (.iconst 2, 1) := by decide +kernel
set_option maxRecDepth 100000 in
theorem dX16_isLike_118 : decode cX16_isLike 118 = .ok (.if_icmp .ne 19, 3) := by decide +kernel
set_option maxRecDepth 100000 in
theorem dX16_isLike_121 : decode cX16_isLike 121 = .ok (.aload 4, 2) := by decide +kernel
set_option maxRecDepth 100000 in
theorem dX16_isLike_123 : decode cX16_isLike 123 = .ok (.getfield 58, 3) := by decide +kernel
set_option maxRecDepth 100000 in
theorem dX16_isLike_126 : decode cX16_isLike 126 = .ok (.aload 5, 2) := by decide +kernel
set_option maxRecDepth 100000 in
theorem dX16_isLike_128 : decode cX16_isLike 128 = .ok (.getfield 58, 3) := by decide +kernel
set_option maxRecDepth 100000 in
theorem dX16_isLike_131 : decode cX16_isLike 131 = .ok (.invokevirtual 62, 3) := by decide +kernel
set_option maxRecDepth 100000 in
theorem dX16_isLike_134 : decode cX16_isLike 134 = .ok (.ifCond .eq 7, 3) := by decide +kernel
set_option maxRecDepth 100000 in
theorem dX16_isLike_137 : decode cX16_isLike 137 = .ok (.iconst 1, 1) := by decide +kernel
set_option maxRecDepth 100000 in
theorem dX16_isLike_138 : decode cX16_isLike 138 = .ok (.goto 4, 3) := by decide +kernel
set_option maxRecDepth 100000 in
theorem dX16_isLike_141 : decode cX16_isLike 141 = .ok (.iconst 0, 1) := by decide +kernel
set_option maxRecDepth 100000 in
theorem dX16_isLike_142 : decode cX16_isLike 142 = .ok (.istore_n 2, 1) := by decide +kernel
set_option maxRecDepth 100000 in
theorem dX16_isLike_143 : decode cX16_isLike 143 = .ok (.iinc 3 1, 3) := by decide +kernel
set_option maxRecDepth 100000 in
theorem dX16_isLike_146 : decode cX16_isLike 146 = .ok (.goto (-101), 3) := by decide +kernel
set_option maxRecDepth 100000 in
theorem dX16_isLike_149 : decode cX16_isLike 149 = .ok (.iload_n 2, 1) := by decide +kernel
set_option maxRecDepth 100000 in
theorem dX16_isLike_150 : decode cX16_isLike 150 = .ok (.ireturn, 1) := by decide +kernel
def lX16_isLike_45 (G : xG) (fr lo : Nat) (x0 : Nat) (x1 : Nat) (x2 : Int32) (x3 : Int32) (h : xH) (Q : Outcome → xH → Prop) : Prop := xP G YX16_isLike fr lo 45 [(0, rv x0), (1, rv x1), (2, .int x2), (3, .int x3)] [] h Q
set_option maxRecDepth 100000 in
def bX16_isLike_149 (G : xG) (fr lo : Nat) (x2 : Int32) (h : xH) (Q : Outcome → xH → Prop) : Prop := xbz x2 ∧ Q (.returned (some (.int x2))) h
set_option maxRecDepth 100000 in
theorem uX16_isLike_149 {G : xG} {fr lo : Nat} {x2 : Int32} {h : xH} {Q : Outcome → xH → Prop} (hq : bX16_isLike_149 G fr lo x2 h Q) : xP G YX16_isLike fr lo 149 [(2, .int x2)] [] h Q := by
  unfold bX16_isLike_149 at hq
  refine x_iload_n 0 dX16_isLike_149 rfl ?_
  obtain ⟨g1, hq⟩ := hq
  exact x_iret rfl (xnZ g1) dX16_isLike_150 hq
set_option maxRecDepth 100000 in
def bX16_isLike_142 (G : xG) (fr lo : Nat) (x0 : Nat) (x1 : Nat) (x3 : Int32) (s0 : Int32) (h : xH) (Q : Outcome → xH → Prop) : Prop := lX16_isLike_45 G fr lo x0 x1 s0 (x3 + 1) h Q
set_option maxRecDepth 100000 in
theorem uX16_isLike_142 {G : xG} {fr lo : Nat} {x0 : Nat} {x1 : Nat} {x3 : Int32} {s0 : Int32} {h : xH} {Q : Outcome → xH → Prop} (hq : bX16_isLike_142 G fr lo x0 x1 x3 s0 h Q) : xP G YX16_isLike fr lo 142 [(0, rv x0), (1, rv x1), (3, .int x3)] [.int s0] h Q := by
  unfold bX16_isLike_142 at hq
  refine x_istore_n (lv' := [(2, .int s0), (0, rv x0), (1, rv x1), (3, .int x3)]) dX16_isLike_142 (by decide) (by first | rfl | (simp [rv_cat, Value.category]; done) | (simp [rv_cat, Value.category]; decide)) ?_
  refine x_iinc (lv' := [(3, .int (x3 + 1)), (2, .int s0), (0, rv x0), (1, rv x1)]) 3 dX16_isLike_143 rfl (by decide) rfl ?_
  refine x_goto (tgt := 45) dX16_isLike_146 (by decide) ?_
  refine xP.pick (lv' := [(0, rv x0), (1, rv x1), (2, .int s0), (3, .int (x3 + 1))]) [2, 3, 1, 0] rfl ?_
  exact hq
set_option maxRecDepth 100000 in
def bX16_isLike_141 (G : xG) (fr lo : Nat) (x0 : Nat) (x1 : Nat) (x3 : Int32) (h : xH) (Q : Outcome → xH → Prop) : Prop := bX16_isLike_142 G fr lo x0 x1 x3 0 h Q
set_option maxRecDepth 100000 in
theorem uX16_isLike_141 {G : xG} {fr lo : Nat} {x0 : Nat} {x1 : Nat} {x3 : Int32} {h : xH} {Q : Outcome → xH → Prop} (hq : bX16_isLike_141 G fr lo x0 x1 x3 h Q) : xP G YX16_isLike fr lo 141 [(0, rv x0), (1, rv x1), (3, .int x3)] [] h Q := by
  unfold bX16_isLike_141 at hq
  refine x_iconst (v := 0) dX16_isLike_141 (by decide) ?_
  exact uX16_isLike_142 hq
set_option maxRecDepth 100000 in
def bX16_isLike_137 (G : xG) (fr lo : Nat) (x0 : Nat) (x1 : Nat) (x3 : Int32) (h : xH) (Q : Outcome → xH → Prop) : Prop := bX16_isLike_142 G fr lo x0 x1 x3 1 h Q
set_option maxRecDepth 100000 in
theorem uX16_isLike_137 {G : xG} {fr lo : Nat} {x0 : Nat} {x1 : Nat} {x3 : Int32} {h : xH} {Q : Outcome → xH → Prop} (hq : bX16_isLike_137 G fr lo x0 x1 x3 h Q) : xP G YX16_isLike fr lo 137 [(0, rv x0), (1, rv x1), (3, .int x3)] [] h Q := by
  unfold bX16_isLike_137 at hq
  refine x_iconst (v := 1) dX16_isLike_137 (by decide) ?_
  refine x_goto (tgt := 142) dX16_isLike_138 (by decide) ?_
  exact uX16_isLike_142 hq
set_option maxRecDepth 100000 in
def bX16_isLike_45 (G : xG) (fr lo : Nat) (x0 : Nat) (x1 : Nat) (x2 : Int32) (x3 : Int32) (h : xH) (Q : Outcome → xH → Prop) : Prop := tg h x0 = 17 ∧ tg h (fR h x0 4099) = 29 ∧ 1 ≤ fr ∧ 13 ≤ lo ∧ xRi G YJ2_size (fr - 1) (lo - 13) [rv (fR h x0 4099)] h (fun x6 h5 => xext h h5 → ((x6 ≤ x3 → bX16_isLike_149 G fr lo x2 h5 Q) ∧ (¬ x6 ≤ x3 → ((x2 = 0 → bX16_isLike_149 G fr lo x2 h5 Q) ∧ (¬ x2 = 0 → tg h5 (fR h5 x0 4099) = 29 ∧ 1 ≤ fr ∧ 13 ≤ lo ∧ xRr G YJ2_get (fr - 1) (lo - 13) [rv (fR h5 x0 4099), .int x3] h5 (fun x15 h14 => xext h5 h14 → tg h14 x15 = 22 ∧ tg h14 x1 = 17 ∧ tg h14 (fR h14 x1 4099) = 29 ∧ 1 ≤ fr ∧ 13 ≤ lo ∧ xRr G YJ2_get (fr - 1) (lo - 13) [rv (fR h14 x1 4099), .int x3] h14 (fun x23 h22 => xext h14 h22 → tg h22 x23 = 22 ∧ ((¬ (fI h22 x15 5376) = (fI h22 x23 5376) → bX16_isLike_141 G fr lo x0 x1 x3 h22 Q) ∧ ((fI h22 x15 5376) = (fI h22 x23 5376) → ((¬ (fR h22 x15 5377) = (fR h22 x23 5377) → bX16_isLike_141 G fr lo x0 x1 x3 h22 Q) ∧ ((fR h22 x15 5377) = (fR h22 x23 5377) → ((¬ (fI h22 x15 5376) = 2 → bX16_isLike_137 G fr lo x0 x1 x3 h22 Q) ∧ ((fI h22 x15 5376) = 2 → tg h22 (fR h22 x15 5378) = 17 ∧ 1 ≤ fr ∧ 17 ≤ lo ∧ xRi G YX16_isLike (fr - 1) (lo - 17) [rv (fR h22 x15 5378), rv (fR h22 x23 5378)] h22 (fun x34 h33 => xext h22 h33 → ((x34 = 0 → bX16_isLike_141 G fr lo x0 x1 x3 h33 Q) ∧ (¬ x34 = 0 → bX16_isLike_137 G fr lo x0 x1 x3 h33 Q))) (fun r h2 => Q (.threw r) h2)))))))) (fun r h2 => Q (.threw r) h2)) (fun r h2 => Q (.threw r) h2)))))) (fun r h2 => Q (.threw r) h2)
set_option maxRecDepth 100000 in
theorem uX16_isLike_45 {G : xG} {fr lo : Nat} {x0 : Nat} {x1 : Nat} {x2 : Int32} {x3 : Int32} {h : xH} {Q : Outcome → xH → Prop} (hq : bX16_isLike_45 G fr lo x0 x1 x2 x3 h Q) : xP G YX16_isLike fr lo 45 [(0, rv x0), (1, rv x1), (2, .int x2), (3, .int x3)] [] h Q := by
  unfold bX16_isLike_45 at hq
  refine x_iload_n 3 dX16_isLike_45 rfl ?_
  refine x_aload_n 0 dX16_isLike_46 rfl ?_
  obtain ⟨g1, hq⟩ := hq
  refine x_get (v := rv (fR h x0 4099)) fdX16_14 dX16_isLike_47 g1 rfl ?_
  obtain ⟨g2, hq⟩ := hq
  obtain ⟨g3, g4, hq⟩ := hq
  refine x_callV (Yc := YJ2_size) (as := []) (st := [.int x3]) q2622 mvJ2_size g2 rfl dX16_isLike_50 (xle (xal1 (rv_cat _) xal0) (by decide)) (xfr g3) (xlo (xsw1 rfl xsw0) (by decide) g4) (xKi hq (fun x6 h5 hq e7 => ?_) (fun _ _ q _ => q))
  replace hq := hq e7
  refine x_icmp_ge (tgt := 149) dX16_isLike_53 (by decide) (fun c8 => ?_) (fun c8 => ?_)
  · replace hq := hq.1 c8
    refine xP.pick (lv' := [(2, .int x2)]) [2] rfl ?_
    exact uX16_isLike_149 hq
  · replace hq := hq.2 c8
    refine x_iload_n 2 dX16_isLike_56 rfl ?_
    refine x_if_eq (tgt := 149) dX16_isLike_57 (by decide) (fun c9 => ?_) (fun c9 => ?_)
    · replace hq := hq.1 c9
      refine xP.pick (lv' := [(2, .int x2)]) [2] rfl ?_
      exact uX16_isLike_149 hq
    · replace hq := hq.2 c9
      refine x_aload_n 0 dX16_isLike_60 rfl ?_
      have t10 : tg h5 x0 = 17 := e7.tg g1 (by decide)
      refine x_get (v := rv (fR h5 x0 4099)) fdX16_14 dX16_isLike_61 t10 rfl ?_
      refine x_iload_n 3 dX16_isLike_64 rfl ?_
      obtain ⟨g11, hq⟩ := hq
      obtain ⟨g12, g13, hq⟩ := hq
      refine x_callV (Yc := YJ2_get) (as := [.int x3]) (st := []) q2623 mvJ2_get g11 rfl dX16_isLike_65 (xle (xal1 (rv_cat _) (xal1 rfl xal0)) (by decide)) (xfr g12) (xlo xsw0 (by decide) g13) (xKr hq (fun x15 h14 hq e16 => ?_) (fun _ _ q _ => q))
      replace hq := hq e16
      obtain ⟨g17, hq⟩ := hq
      refine x_cast (ci := 21) (by decide) rfl q2624 g17 dX16_isLike_68 ?_
      refine x_astore (lv' := [(4, rv x15), (0, rv x0), (1, rv x1), (2, .int x2), (3, .int x3)]) dX16_isLike_71 (by decide) rfl ?_
      refine x_aload_n 2 dX16_isLike_73 rfl ?_
      obtain ⟨g18, hq⟩ := hq
      refine x_get (v := rv (fR h14 x1 4099)) fdX16_14 dX16_isLike_74 g18 rfl ?_
      refine x_iload_n 4 dX16_isLike_77 rfl ?_
      obtain ⟨g19, hq⟩ := hq
      obtain ⟨g20, g21, hq⟩ := hq
      refine x_callV (Yc := YJ2_get) (as := [.int x3]) (st := []) q2623 mvJ2_get g19 rfl dX16_isLike_78 (xle (xal1 (rv_cat _) (xal1 rfl xal0)) (by decide)) (xfr g20) (xlo xsw0 (by decide) g21) (xKr hq (fun x23 h22 hq e24 => ?_) (fun _ _ q _ => q))
      replace hq := hq e24
      obtain ⟨g25, hq⟩ := hq
      refine x_cast (ci := 21) (by decide) rfl q2624 g25 dX16_isLike_81 ?_
      refine x_astore (lv' := [(5, rv x23), (4, rv x15), (0, rv x0), (1, rv x1), (2, .int x2), (3, .int x3)]) dX16_isLike_84 (by decide) (by first | rfl | (simp [rv_cat, Value.category]; done) | (simp [rv_cat, Value.category]; decide)) ?_
      refine x_aload 1 dX16_isLike_86 rfl ?_
      have t26 : tg h22 x15 = 22 := e24.tg g17 (by decide)
      refine x_getN (v := .int (fI h22 x15 5376)) gfX16_52 dX16_isLike_88 t26 rfl ?_
      refine x_aload 0 dX16_isLike_91 rfl ?_
      refine x_getN (v := .int (fI h22 x23 5376)) gfX16_52 dX16_isLike_93 g25 rfl ?_
      refine x_icmp_ne (tgt := 141) dX16_isLike_96 (by decide) (fun c27 => ?_) (fun c27 => ?_)
      · replace hq := hq.1 c27
        refine xP.pick (lv' := [(0, rv x0), (1, rv x1), (3, .int x3)]) [2, 3, 5] rfl ?_
        exact uX16_isLike_141 hq
      · replace hq := hq.2 c27
        refine x_aload 1 dX16_isLike_99 rfl ?_
        refine x_getN (v := rv (fR h22 x15 5377)) gfX16_55 dX16_isLike_101 t26 rfl ?_
        refine x_aload 0 dX16_isLike_104 rfl ?_
        refine x_getN (v := rv (fR h22 x23 5377)) gfX16_55 dX16_isLike_106 g25 rfl ?_
        refine x_acmp_ne (tgt := 141) dX16_isLike_109 (by decide) (fun c28 => ?_) (fun c28 => ?_)
        · replace hq := hq.1 c28
          refine xP.pick (lv' := [(0, rv x0), (1, rv x1), (3, .int x3)]) [2, 3, 5] rfl ?_
          exact uX16_isLike_141 hq
        · replace hq := hq.2 c28
          refine x_aload 1 dX16_isLike_112 rfl ?_
          refine x_getN (v := .int (fI h22 x15 5376)) gfX16_52 dX16_isLike_114 t26 rfl ?_
          refine x_iconst (v := 2) dX16_isLike_117 (by decide) ?_
          refine x_icmp_ne (tgt := 137) dX16_isLike_118 (by decide) (fun c29 => ?_) (fun c29 => ?_)
          · replace hq := hq.1 c29
            refine xP.pick (lv' := [(0, rv x0), (1, rv x1), (3, .int x3)]) [2, 3, 5] rfl ?_
            exact uX16_isLike_137 hq
          · replace hq := hq.2 c29
            refine x_aload 1 dX16_isLike_121 rfl ?_
            refine x_getN (v := rv (fR h22 x15 5378)) gfX16_58 dX16_isLike_123 t26 rfl ?_
            refine x_aload 0 dX16_isLike_126 rfl ?_
            refine x_getN (v := rv (fR h22 x23 5378)) gfX16_58 dX16_isLike_128 g25 rfl ?_
            obtain ⟨g30, hq⟩ := hq
            obtain ⟨g31, g32, hq⟩ := hq
            refine x_callV (Yc := YX16_isLike) (as := [rv (fR h22 x23 5378)]) (st := []) q2625 mvX16_isLike g30 rfl dX16_isLike_131 (xle (xal1 (rv_cat _) (xal1 (rv_cat _) xal0)) (by decide)) (xfr g31) (xlo xsw0 (by decide) g32) (xKi hq (fun x34 h33 hq e35 => ?_) (fun _ _ q _ => q))
            replace hq := hq e35
            refine x_if_eq (tgt := 141) dX16_isLike_134 (by decide) (fun c36 => ?_) (fun c36 => ?_)
            · replace hq := hq.1 c36
              refine xP.pick (lv' := [(0, rv x0), (1, rv x1), (3, .int x3)]) [2, 3, 5] rfl ?_
              exact uX16_isLike_141 hq
            · replace hq := hq.2 c36
              refine xP.pick (lv' := [(0, rv x0), (1, rv x1), (3, .int x3)]) [2, 3, 5] rfl ?_
              exact uX16_isLike_137 hq
set_option maxRecDepth 100000 in
def bX16_isLike_39 (G : xG) (fr lo : Nat) (h : xH) (Q : Outcome → xH → Prop) : Prop := Q (.returned (some (.int 0))) h
set_option maxRecDepth 100000 in
theorem uX16_isLike_39 {G : xG} {fr lo : Nat} {h : xH} {Q : Outcome → xH → Prop} (hq : bX16_isLike_39 G fr lo h Q) : xP G YX16_isLike fr lo 39 [] [] h Q := by
  unfold bX16_isLike_39 at hq
  refine x_iconst (v := 0) dX16_isLike_39 (by decide) ?_
  exact x_iret rfl rfl dX16_isLike_40 hq
set_option maxRecDepth 100000 in
def bX16_isLike (G : xG) (fr lo : Nat) (x0 : Nat) (x1 : Nat) (h : xH) (Q : Outcome → xH → Prop) : Prop := tg h x0 = 17 ∧ tg h x1 = 17 ∧ ((¬ (fI h x0 4097) = (fI h x1 4097) → bX16_isLike_39 G fr lo h Q) ∧ ((fI h x0 4097) = (fI h x1 4097) → ((¬ (fR h x0 4100) = (fR h x1 4100) → bX16_isLike_39 G fr lo h Q) ∧ ((fR h x0 4100) = (fR h x1 4100) → tg h (fR h x0 4099) = 29 ∧ 1 ≤ fr ∧ 12 ≤ lo ∧ xRi G YJ2_size (fr - 1) (lo - 12) [rv (fR h x0 4099)] h (fun x9 h8 => xext h h8 → tg h8 (fR h8 x1 4099) = 29 ∧ 1 ≤ fr ∧ 13 ≤ lo ∧ xRi G YJ2_size (fr - 1) (lo - 13) [rv (fR h8 x1 4099)] h8 (fun x16 h15 => xext h8 h15 → ((x9 = x16 → lX16_isLike_45 G fr lo x0 x1 1 0 h15 Q) ∧ (¬ x9 = x16 → bX16_isLike_39 G fr lo h15 Q))) (fun r h2 => Q (.threw r) h2)) (fun r h2 => Q (.threw r) h2)))))
set_option maxRecDepth 100000 in
theorem uX16_isLike {G : xG} {fr lo : Nat} {x0 : Nat} {x1 : Nat} {h : xH} {Q : Outcome → xH → Prop} (hq : bX16_isLike G fr lo x0 x1 h Q) : xP G YX16_isLike fr lo 0 [(0, rv x0), (1, rv x1)] [] h Q := by
  unfold bX16_isLike at hq
  refine x_aload_n 0 dX16_isLike_0 rfl ?_
  obtain ⟨g1, hq⟩ := hq
  refine x_get (v := .int (fI h x0 4097)) fdX16_31 dX16_isLike_1 g1 rfl ?_
  refine x_aload_n 1 dX16_isLike_4 rfl ?_
  obtain ⟨g2, hq⟩ := hq
  refine x_get (v := .int (fI h x1 4097)) fdX16_31 dX16_isLike_5 g2 rfl ?_
  refine x_icmp_ne (tgt := 39) dX16_isLike_8 (by decide) (fun c3 => ?_) (fun c3 => ?_)
  · replace hq := hq.1 c3
    refine xP.pick (lv' := []) [] rfl ?_
    exact uX16_isLike_39 hq
  · replace hq := hq.2 c3
    refine x_aload_n 0 dX16_isLike_11 rfl ?_
    refine x_get (v := rv (fR h x0 4100)) fdX16_38 dX16_isLike_12 g1 rfl ?_
    refine x_aload_n 1 dX16_isLike_15 rfl ?_
    refine x_get (v := rv (fR h x1 4100)) fdX16_38 dX16_isLike_16 g2 rfl ?_
    refine x_acmp_ne (tgt := 39) dX16_isLike_19 (by decide) (fun c4 => ?_) (fun c4 => ?_)
    · replace hq := hq.1 c4
      refine xP.pick (lv' := []) [] rfl ?_
      exact uX16_isLike_39 hq
    · replace hq := hq.2 c4
      refine x_aload_n 0 dX16_isLike_22 rfl ?_
      refine x_get (v := rv (fR h x0 4099)) fdX16_14 dX16_isLike_23 g1 rfl ?_
      obtain ⟨g5, hq⟩ := hq
      obtain ⟨g6, g7, hq⟩ := hq
      refine x_callV (Yc := YJ2_size) (as := []) (st := []) q2622 mvJ2_size g5 rfl dX16_isLike_26 (xle (xal1 (rv_cat _) xal0) (by decide)) (xfr g6) (xlo xsw0 (by decide) g7) (xKi hq (fun x9 h8 hq e10 => ?_) (fun _ _ q _ => q))
      replace hq := hq e10
      refine x_aload_n 1 dX16_isLike_29 rfl ?_
      have t11 : tg h8 x1 = 17 := e10.tg g2 (by decide)
      refine x_get (v := rv (fR h8 x1 4099)) fdX16_14 dX16_isLike_30 t11 rfl ?_
      obtain ⟨g12, hq⟩ := hq
      obtain ⟨g13, g14, hq⟩ := hq
      refine x_callV (Yc := YJ2_size) (as := []) (st := [.int x9]) q2622 mvJ2_size g12 rfl dX16_isLike_33 (xle (xal1 (rv_cat _) xal0) (by decide)) (xfr g13) (xlo (xsw1 rfl xsw0) (by decide) g14) (xKi hq (fun x16 h15 hq e17 => ?_) (fun _ _ q _ => q))
      replace hq := hq e17
      refine x_icmp_eq (tgt := 41) dX16_isLike_36 (by decide) (fun c18 => ?_) (fun c18 => ?_)
      · replace hq := hq.1 c18
        refine x_iconst (v := 1) dX16_isLike_41 (by decide) ?_
        refine x_istore_n (lv' := [(2, .int 1), (0, rv x0), (1, rv x1)]) dX16_isLike_42 (by decide) (by first | rfl | (simp [rv_cat, Value.category]; done) | (simp [rv_cat, Value.category]; decide)) ?_
        refine x_iconst (v := 0) dX16_isLike_43 (by decide) ?_
        refine x_istore_n (lv' := [(3, .int 0), (2, .int 1), (0, rv x0), (1, rv x1)]) dX16_isLike_44 (by decide) rfl ?_
        refine xP.pick (lv' := [(0, rv x0), (1, rv x1), (2, .int 1), (3, .int 0)]) [2, 3, 1, 0] rfl ?_
        exact hq
      · replace hq := hq.2 c18
        refine xP.pick (lv' := []) [] rfl ?_
        exact uX16_isLike_39 hq
theorem rX16_isLike {G : xG} {fr lo : Nat} {x0 : Nat} {x1 : Nat} {h : xH} {Q : Outcome → xH → Prop} (hq : bX16_isLike G fr lo x0 x1 h Q) : xR G YX16_isLike fr lo [rv x0, rv x1] h Q := by
  show xP _ _ _ _ _ (lv_args 0 _) _ _ _
  rw [show lv_args 0 [rv x0, rv x1] = [(0, rv x0), (1, rv x1)] from (xla1 (rv_cat _) (xla1 (rv_cat _) xla0))]
  exact uX16_isLike hq
