/-! PascalHouse$Scanner, walked (1) -/
set_option maxRecDepth 100000 in
theorem dX4_init_0 : decode cX4_init 0 = .ok (.aload_n 0, 1) := by decide +kernel
set_option maxRecDepth 100000 in
theorem dX4_init_1 : decode cX4_init 1 = .ok (.invokespecial 3, 3) := by decide +kernel
set_option maxRecDepth 100000 in
theorem dX4_init_4 : decode cX4_init 4 = .ok (.aload_n 0, 1) := by decide +kernel
set_option maxRecDepth 100000 in
theorem dX4_init_5 : decode cX4_init 5 = .ok (.new 9, 3) := by decide +kernel
set_option maxRecDepth 100000 in
theorem dX4_init_8 : decode cX4_init 8 = .ok (.dup, 1) := by decide +kernel
set_option maxRecDepth 100000 in
theorem dX4_init_9 : decode cX4_init 9 = .ok (.bipush 80, 2) := by decide +kernel
set_option maxRecDepth 100000 in
theorem dX4_init_11 : decode cX4_init 11 = .ok (.invokespecial 11, 3) := by decide +kernel
set_option maxRecDepth 100000 in
theorem dX4_init_14 : decode cX4_init 14 = .ok (.putfield 14, 3) := by decide +kernel
set_option maxRecDepth 100000 in
theorem dX4_init_17 : decode cX4_init 17 = .ok (.aload_n 0, 1) := by decide +kernel
set_option maxRecDepth 100000 in
theorem dX4_init_18 : decode cX4_init 18 = .ok (.aload_n 1, 1) := by decide +kernel
set_option maxRecDepth 100000 in
theorem dX4_init_19 : decode cX4_init 19 = .ok (.putfield 20, 3) := by decide +kernel
set_option maxRecDepth 100000 in
theorem dX4_init_22 : decode cX4_init 22 = .ok (.aload_n 0, 1) := by decide +kernel
set_option maxRecDepth 100000 in
theorem dX4_init_23 : decode cX4_init 23 = .ok (.aload_n 2, 1) := by decide +kernel
set_option maxRecDepth 100000 in
theorem dX4_init_24 : decode cX4_init 24 = .ok (.putfield 24, 3) := by decide +kernel
set_option maxRecDepth 100000 in
theorem dX4_init_27 : decode cX4_init 27 = .ok (.aload_n 0, 1) := by decide +kernel
set_option maxRecDepth 100000 in
theorem dX4_init_28 : decode cX4_init 28 = .ok (.aload_n 3, 1) := by decide +kernel
set_option maxRecDepth 100000 in
theorem dX4_init_29 : decode cX4_init 29 = .ok (.putfield 28, 3) := by decide +kernel
set_option maxRecDepth 100000 in
theorem dX4_init_32 : decode cX4_init 32 = .ok (.return_, 1) := by decide +kernel
set_option maxRecDepth 100000 in
def bX4_init (G : xG) (fr lo : Nat) (x0 : Nat) (x1 : Nat) (x2 : Nat) (x3 : Nat) (h : xH) (Q : Outcome → xH → Prop) : Prop := tg h x0 = 5 ∧ 1 ≤ fr ∧ 12 ≤ lo ∧ nx h + 1 ≤ xGN G ∧ us h + 4 ≤ xGU G ∧ (∀ (a6 : Nat) (h7 : xH), a6 = nx h + 1 → h7 = nO h 30 4 → xfresh h a6 → 1 ≤ fr ∧ 15 ≤ lo ∧ xRv G YJ4_init (fr - 1) (lo - 15) [rv a6, .int 80] h7 (fun h14 => xext h7 h14 → (∀ h19 : xH, h19 = sR h14 x0 1027 a6 → (∀ h22 : xH, h22 = sR h19 x0 1024 x1 → (∀ h25 : xH, h25 = sR h22 x0 1025 x2 → (∀ h28 : xH, h28 = sR h25 x0 1026 x3 → Q (.returned none) h28))))) (fun r h2 => Q (.threw r) h2))
set_option maxRecDepth 100000 in
theorem uX4_init {G : xG} {fr lo : Nat} {x0 : Nat} {x1 : Nat} {x2 : Nat} {x3 : Nat} {h : xH} {Q : Outcome → xH → Prop} (hq : bX4_init G fr lo x0 x1 x2 x3 h Q) : xP G YX4_init fr lo 0 [(0, rv x0), (1, rv x1), (2, rv x2), (3, rv x3)] [] h Q := by
  unfold bX4_init at hq
  refine x_aload_n 0 dX4_init_0 rfl ?_
  obtain ⟨g1, hq⟩ := hq
  obtain ⟨g2, g3, hq⟩ := hq
  refine x_objInit (by rw [g1]; decide) q608 q438 q439 dX4_init_1 g2 (by simp only [List.map_cons, List.map_nil, List.sum_cons, List.sum_nil, rv_cat, Value.category]; omega) ?_
  refine x_aload_n 0 dX4_init_4 rfl ?_
  obtain ⟨g4, g5, hq⟩ := hq
  obtain ⟨a6, e8⟩ : ∃ y, y = nx h + 1 := ⟨_, rfl⟩
  obtain ⟨h7, e9⟩ : ∃ y, y = nO h 30 4 := ⟨_, rfl⟩
  refine x_new' cdX4_9 dX4_init_5 g4 g5 e8 e9 (fun f10 => ?_)
  replace hq := hq a6 h7 e8 e9 f10
  have t11 : tg h7 a6 = 30 := by rw [e9, e8]; exact tg_nO
  refine x_dup dX4_init_8 (rv_cat _) ?_
  refine x_bipush (v := 80) dX4_init_9 (by decide) ?_
  obtain ⟨g12, g13, hq⟩ := hq
  refine x_callI (Yc := YJ4_init) (as := [.int 80]) (st := [rv a6, rv x0]) q611 miJ4_init (by rw [t11]; decide) rfl dX4_init_11 (xle (xal1 (rv_cat _) (xal1 rfl xal0)) (by decide)) (xfr g12) (xlo (xsw1 (rv_cat _) (xsw1 (rv_cat _) xsw0)) (by decide) g13) (xKv hq (fun h14 hq e16 => ?_) (fun _ _ q _ => q))
  replace hq := hq e16
  have t17 : tg h7 x0 = 5 := by rw [e9]; exact tg_nO_ne e8 f10 g1 (by decide)
  have t18 : tg h14 x0 = 5 := e16.tg t17 (by decide)
  obtain ⟨h19, e20⟩ : ∃ y, y = sR h14 x0 1027 a6 := ⟨_, rfl⟩
  replace hq := hq h19 e20
  refine x_putFR fdX4_14 owX4_init_3 xty_O dX4_init_14 t18 (Or.inl (by rw [t18]; rfl)) rfl e20 ?_
  refine x_aload_n 0 dX4_init_17 rfl ?_
  refine x_aload_n 1 dX4_init_18 rfl ?_
  have t21 : tg h19 x0 = 5 := by rw [e20]; exact t18
  obtain ⟨h22, e23⟩ : ∃ y, y = sR h19 x0 1024 x1 := ⟨_, rfl⟩
  replace hq := hq h22 e23
  refine x_putFR fdX4_20 owX4_init_0 xty_A dX4_init_19 t21 (Or.inl (by rw [t21]; rfl)) rfl e23 ?_
  refine x_aload_n 0 dX4_init_22 rfl ?_
  refine x_aload_n 2 dX4_init_23 rfl ?_
  have t24 : tg h22 x0 = 5 := by rw [e23]; exact t21
  obtain ⟨h25, e26⟩ : ∃ y, y = sR h22 x0 1025 x2 := ⟨_, rfl⟩
  replace hq := hq h25 e26
  refine x_putFR fdX4_24 owX4_init_1 xty_A dX4_init_24 t24 (Or.inl (by rw [t24]; rfl)) rfl e26 ?_
  refine x_aload_n 0 dX4_init_27 rfl ?_
  refine x_aload_n 3 dX4_init_28 rfl ?_
  have t27 : tg h25 x0 = 5 := by rw [e26]; exact t24
  obtain ⟨h28, e29⟩ : ∃ y, y = sR h25 x0 1026 x3 := ⟨_, rfl⟩
  replace hq := hq h28 e29
  refine x_putFR fdX4_28 owX4_init_2 xty_O dX4_init_29 t27 (Or.inl (by rw [t27]; rfl)) rfl e29 ?_
  exact x_vret rfl dX4_init_32 hq
theorem rX4_init {G : xG} {fr lo : Nat} {x0 : Nat} {x1 : Nat} {x2 : Nat} {x3 : Nat} {h : xH} {Q : Outcome → xH → Prop} (hq : bX4_init G fr lo x0 x1 x2 x3 h Q) : xR G YX4_init fr lo [rv x0, rv x1, rv x2, rv x3] h Q := by
  show xP _ _ _ _ _ (lv_args 0 _) _ _ _
  rw [show lv_args 0 [rv x0, rv x1, rv x2, rv x3] = [(0, rv x0), (1, rv x1), (2, rv x2), (3, rv x3)] from (xla1 (rv_cat _) (xla1 (rv_cat _) (xla1 (rv_cat _) (xla1 (rv_cat _) xla0))))]
  exact uX4_init hq
set_option maxRecDepth 100000 in
theorem dX4_begin_0 : decode cX4_begin 0 = .ok (.aload_n 0, 1) := by decide +kernel
set_option maxRecDepth 100000 in
theorem dX4_begin_1 : decode cX4_begin 1 = .ok (.iload_n 1, 1) := by decide +kernel
set_option maxRecDepth 100000 in
theorem dX4_begin_2 : decode cX4_begin 2 = .ok (.putfield 32, 3) := by decide +kernel
set_option maxRecDepth 100000 in
theorem dX4_begin_5 : decode cX4_begin 5 = .ok (.aload_n 0, 1) := by decide +kernel
set_option maxRecDepth 100000 in
theorem dX4_begin_6 : decode cX4_begin 6 = .ok (.iconst 0, 1) := by decide +kernel
set_option maxRecDepth 100000 in
theorem dX4_begin_7 : decode cX4_begin 7 = .ok (.putfield 36, 3) := by decide +kernel
set_option maxRecDepth 100000 in
theorem dX4_begin_10 : decode cX4_begin 10 = .ok (.return_, 1) := by decide +kernel
set_option maxRecDepth 100000 in
def bX4_begin (G : xG) (fr lo : Nat) (x0 : Nat) (x1 : Int32) (h : xH) (Q : Outcome → xH → Prop) : Prop := tg h x0 = 5 ∧ (∀ h2 : xH, h2 = sI h x0 1028 x1 → (∀ h5 : xH, h5 = sI h2 x0 1029 0 → Q (.returned none) h5))
set_option maxRecDepth 100000 in
theorem uX4_begin {G : xG} {fr lo : Nat} {x0 : Nat} {x1 : Int32} {h : xH} {Q : Outcome → xH → Prop} (hq : bX4_begin G fr lo x0 x1 h Q) : xP G YX4_begin fr lo 0 [(0, rv x0), (1, .int x1)] [] h Q := by
  unfold bX4_begin at hq
  refine x_aload_n 0 dX4_begin_0 rfl ?_
  refine x_iload_n 1 dX4_begin_1 rfl ?_
  obtain ⟨g1, hq⟩ := hq
  obtain ⟨h2, e3⟩ : ∃ y, y = sI h x0 1028 x1 := ⟨_, rfl⟩
  replace hq := hq h2 e3
  refine x_putI fdX4_32 xty_I1 dX4_begin_2 g1 (Or.inl (by rw [g1]; rfl)) xnI rfl e3 ?_
  refine x_aload_n 0 dX4_begin_5 rfl ?_
  refine x_iconst (v := 0) dX4_begin_6 (by decide) ?_
  have t4 : tg h2 x0 = 5 := by rw [e3]; exact g1
  obtain ⟨h5, e6⟩ : ∃ y, y = sI h2 x0 1029 0 := ⟨_, rfl⟩
  replace hq := hq h5 e6
  refine x_putI fdX4_36 xty_I1 dX4_begin_7 t4 (Or.inl (by rw [t4]; rfl)) xnI rfl e6 ?_
  exact x_vret rfl dX4_begin_10 hq
theorem rX4_begin {G : xG} {fr lo : Nat} {x0 : Nat} {x1 : Int32} {h : xH} {Q : Outcome → xH → Prop} (hq : bX4_begin G fr lo x0 x1 h Q) : xR G YX4_begin fr lo [rv x0, .int x1] h Q := by
  show xP _ _ _ _ _ (lv_args 0 _) _ _ _
  rw [show lv_args 0 [rv x0, .int x1] = [(0, rv x0), (1, .int x1)] from (xla1 (rv_cat _) (xla1 rfl xla0))]
  exact uX4_begin hq
set_option maxRecDepth 100000 in
theorem dX4_next_0 : decode cX4_next 0 = .ok (.aload_n 0, 1) := by decide +kernel
set_option maxRecDepth 100000 in
theorem dX4_next_1 : decode cX4_next 1 = .ok (.invokevirtual 55, 3) := by decide +kernel
set_option maxRecDepth 100000 in
theorem dX4_next_4 : decode cX4_next 4 = .ok (.aload_n 0, 1) := by decide +kernel
set_option maxRecDepth 100000 in
theorem dX4_next_5 : decode cX4_next 5 = .ok (.getfield 36, 3) := by decide +kernel
set_option maxRecDepth 100000 in
theorem dX4_next_8 : decode cX4_next 8 = .ok (.aload_n 0, 1) := by decide +kernel
set_option maxRecDepth 100000 in
theorem dX4_next_9 : decode cX4_next 9 = .ok (.getfield 32, 3) := by decide +kernel
set_option maxRecDepth 100000 in
theorem dX4_next_12 : decode cX4_next 12 = .ok (.if_icmp .lt 22, 3) := by decide +kernel
set_option maxRecDepth 100000 in
theorem dX4_next_15 : decode cX4_next 15 = .ok (.new 58, 3) := by decide +kernel
set_option maxRecDepth 100000 in
theorem dX4_next_18 : decode cX4_next 18 = .ok (.dup, 1) := by decide +kernel
set_option maxRecDepth 100000 in
theorem dX4_next_19 : decode cX4_next 19 = .ok (.getstatic 60, 3) := by decide +kernel
set_option maxRecDepth 100000 in
theorem dX4_next_22 : decode cX4_next 22 = .ok (.ldc 66, 2) := by decide +kernel
set_option maxRecDepth 100000 in
theorem dX4_next_24 : decode cX4_next 24 = .ok (.aload_n 0, 1) := by decide +kernel
set_option maxRecDepth 100000 in
theorem dX4_next_25 : decode cX4_next 25 = .ok (.getfield 32, 3) := by decide +kernel
set_option maxRecDepth 100000 in
theorem dX4_next_28 : decode cX4_next 28 = .ok (.iconst 0, 1) := by decide +kernel
set_option maxRecDepth 100000 in
theorem dX4_next_29 : decode cX4_next 29 = .ok (.dconst 0, 1) := by decide +kernel
set_option maxRecDepth 100000 in
theorem dX4_next_30 : decode cX4_next 30 = .ok (.invokespecial 68, 3) := by decide +kernel
set_option maxRecDepth 100000 in
theorem dX4_next_33 : decode cX4_next 33 = .ok (.areturn, 1) := by decide +kernel
set_option maxRecDepth 100000 in
theorem dX4_next_34 : decode cX4_next 34 = .ok (.aload_n 0, 1) := by decide +kernel
set_option maxRecDepth 100000 in
theorem dX4_next_35 : decode cX4_next 35 = .ok (.iconst 0, 1) := by decide +kernel
set_option maxRecDepth 100000 in
theorem dX4_next_36 : decode cX4_next 36 = .ok (.invokevirtual 44, 3) := by decide +kernel
set_option maxRecDepth 100000 in
theorem dX4_next_39 : decode cX4_next 39 = .ok (.istore_n 1, 1) := by decide +kernel
set_option maxRecDepth 100000 in
theorem dX4_next_40 : decode cX4_next 40 = .ok (.iload_n 1, 1) := by decide +kernel
set_option maxRecDepth 100000 in
theorem dX4_next_41 : decode cX4_next 41 = .ok (.invokestatic 71, 3) := by decide +kernel
set_option maxRecDepth 100000 in
theorem dX4_next_44 : decode cX4_next 44 = .ok (.ifCond .eq 8, 3) := by decide +kernel
set_option maxRecDepth 100000 in
theorem dX4_next_47 : decode cX4_next 47 = .ok (.aload_n 0, 1) := by decide +kernel
set_option maxRecDepth 100000 in
theorem dX4_next_48 : decode cX4_next 48 = .ok (.invokevirtual 75, 3) := by decide +kernel
set_option maxRecDepth 100000 in
theorem dX4_next_51 : decode cX4_next 51 = .ok (.areturn, 1) := by decide +kernel
set_option maxRecDepth 100000 in
theorem dX4_next_52 : decode cX4_next 52 = .ok (.iload_n 1, 1) := by decide +kernel
set_option maxRecDepth 100000 in
theorem dX4_next_53 : decode cX4_next 53 = .ok (.invokestatic 79, 3) := by decide +kernel
set_option maxRecDepth 100000 in
theorem dX4_next_56 : decode cX4_next 56 = .ok (.ifCond .eq 8, 3) := by decide +kernel
set_option maxRecDepth 100000 in
theorem dX4_next_59 : decode cX4_next 59 = .ok (.aload_n 0, 1) := by decide +kernel
set_option maxRecDepth 100000 in
theorem dX4_next_60 : decode cX4_next 60 = .ok (.invokevirtual 82, 3) := by decide +kernel
set_option maxRecDepth 100000 in
theorem dX4_next_63 : decode cX4_next 63 = .ok (.areturn, 1) := by decide +kernel
set_option maxRecDepth 100000 in
theorem dX4_next_64 : decode cX4_next 64 = .ok (.iload_n 1, 1) := by decide +kernel
set_option maxRecDepth 100000 in
theorem dX4_next_65 : decode cX4_next 65 = .ok (.bipush 39, 2) := by decide +kernel
set_option maxRecDepth 100000 in
theorem dX4_next_67 : decode cX4_next 67 = .ok (.if_icmp .ne 10, 3) := by decide +kernel
set_option maxRecDepth 100000 in
theorem dX4_next_70 : decode cX4_next 70 = .ok (.aload_n 0, 1) := by decide +kernel
set_option maxRecDepth 100000 in
theorem dX4_next_71 : decode cX4_next 71 = .ok (.invokevirtual 85, 3) := by decide +kernel
set_option maxRecDepth 100000 in
theorem dX4_next_74 : decode cX4_next 74 = .ok (.goto 7, 3) := by decide +kernel
set_option maxRecDepth 100000 in
theorem dX4_next_77 : decode cX4_next 77 = .ok (.aload_n 0, 1) := by decide +kernel
set_option maxRecDepth 100000 in
theorem dX4_next_78 : decode cX4_next 78 = .ok (.invokevirtual 88, 3) := by decide +kernel
set_option maxRecDepth 100000 in
theorem dX4_next_81 : decode cX4_next 81 = .ok (.areturn, 1) := by decide +kernel
set_option maxRecDepth 100000 in
def bX4_next_81 (G : xG) (fr lo : Nat) (s0 : Nat) (h : xH) (Q : Outcome → xH → Prop) : Prop := Q (.returned (some (rv s0))) h
set_option maxRecDepth 100000 in
theorem uX4_next_81 {G : xG} {fr lo : Nat} {s0 : Nat} {h : xH} {Q : Outcome → xH → Prop} (hq : bX4_next_81 G fr lo s0 h Q) : xP G YX4_next fr lo 81 [] [rv s0] h Q := by
  unfold bX4_next_81 at hq
  exact x_aret rfl xty_O dX4_next_81 hq
set_option maxRecDepth 100000 in
def bX4_next (G : xG) (fr lo : Nat) (x0 : Nat) (h : xH) (Q : Outcome → xH → Prop) : Prop := tg h x0 = 5 ∧ 1 ≤ fr ∧ 13 ≤ lo ∧ xRv G YX4_pass (fr - 1) (lo - 13) [rv x0] h (fun h4 => xext h h4 → (((fI h4 x0 1029) < (fI h4 x0 1028) → 1 ≤ fr ∧ 13 ≤ lo ∧ xRi G YX4_here (fr - 1) (lo - 13) [rv x0, .int 0] h4 (fun x12 h11 => xext h4 h11 → 1 ≤ fr ∧ 12 ≤ lo ∧ xRi G YX0_isLetter (fr - 1) (lo - 12) [.int x12] h11 (fun x17 h16 => xext h11 h16 → ((x17 = 0 → 1 ≤ fr ∧ 12 ≤ lo ∧ xRi G YX0_isDigit (fr - 1) (lo - 12) [.int x12] h16 (fun x23 h22 => xext h16 h22 → ((x23 = 0 → ((¬ x12 = 39 → 1 ≤ fr ∧ 17 ≤ lo ∧ xRr G YX4_sign (fr - 1) (lo - 17) [rv x0] h22 (fun x33 h32 => xext h22 h32 → bX4_next_81 G fr lo x33 h32 Q) (fun r h2 => Q (.threw r) h2)) ∧ (x12 = 39 → 1 ≤ fr ∧ 13 ≤ lo ∧ xRr G YX4_string (fr - 1) (lo - 13) [rv x0] h22 (fun x41 h40 => xext h22 h40 → bX4_next_81 G fr lo x41 h40 Q) (fun r h2 => Q (.threw r) h2)))) ∧ (¬ x23 = 0 → 1 ≤ fr ∧ 24 ≤ lo ∧ xRr G YX4_number (fr - 1) (lo - 24) [rv x0] h22 (fun x49 h48 => xext h22 h48 → Q (.returned (some (rv x49))) h48) (fun r h2 => Q (.threw r) h2)))) (fun r h2 => Q (.threw r) h2)) ∧ (¬ x17 = 0 → 1 ≤ fr ∧ 17 ≤ lo ∧ xRr G YX4_word (fr - 1) (lo - 17) [rv x0] h16 (fun x56 h55 => xext h16 h55 → Q (.returned (some (rv x56))) h55) (fun r h2 => Q (.threw r) h2)))) (fun r h2 => Q (.threw r) h2)) (fun r h2 => Q (.threw r) h2)) ∧ (¬ (fI h4 x0 1029) < (fI h4 x0 1028) → nx h4 + 1 ≤ xGN G ∧ us h4 + 5 ≤ xGU G ∧ (∀ (a60 : Nat) (h61 : xH), a60 = nx h4 + 1 → h61 = nO h4 15 5 → xfresh h4 a60 → 1 ≤ fr ∧ 19 ≤ lo ∧ xRv G YX14_init (fr - 1) (lo - 19) [rv a60, rv (xGS G 5), rv (tx G 45), .int (fI h61 x0 1028), .int 0, .double FP.dconst0] h61 (fun h69 => xext h61 h69 → Q (.returned (some (rv a60))) h69) (fun r h2 => Q (.threw r) h2))))) (fun r h2 => Q (.threw r) h2)
set_option maxRecDepth 100000 in
theorem uX4_next {G : xG} {fr lo : Nat} {x0 : Nat} {h : xH} {Q : Outcome → xH → Prop} (hq : bX4_next G fr lo x0 h Q) : xP G YX4_next fr lo 0 [(0, rv x0)] [] h Q := by
  unfold bX4_next at hq
  refine x_aload_n 0 dX4_next_0 rfl ?_
  obtain ⟨g1, hq⟩ := hq
  obtain ⟨g2, g3, hq⟩ := hq
  refine x_callV (Yc := YX4_pass) (as := []) (st := []) q1576 mvX4_pass g1 rfl dX4_next_1 (xle (xal1 (rv_cat _) xal0) (by decide)) (xfr g2) (xlo xsw0 (by decide) g3) (xKv hq (fun h4 hq e6 => ?_) (fun _ _ q _ => q))
  replace hq := hq e6
  refine x_aload_n 0 dX4_next_4 rfl ?_
  have t7 : tg h4 x0 = 5 := e6.tg g1 (by decide)
  refine x_get (v := .int (fI h4 x0 1029)) fdX4_36 dX4_next_5 t7 rfl ?_
  refine x_aload_n 0 dX4_next_8 rfl ?_
  refine x_get (v := .int (fI h4 x0 1028)) fdX4_32 dX4_next_9 t7 rfl ?_
  refine x_icmp_lt (tgt := 34) dX4_next_12 (by decide) (fun c8 => ?_) (fun c8 => ?_)
  · replace hq := hq.1 c8
    refine x_aload_n 0 dX4_next_34 rfl ?_
    refine x_iconst (v := 0) dX4_next_35 (by decide) ?_
    obtain ⟨g9, g10, hq⟩ := hq
    refine x_callV (Yc := YX4_here) (as := [.int 0]) (st := []) q1580 mvX4_here t7 rfl dX4_next_36 (xle (xal1 (rv_cat _) (xal1 rfl xal0)) (by decide)) (xfr g9) (xlo xsw0 (by decide) g10) (xKi hq (fun x12 h11 hq e13 => ?_) (fun _ _ q _ => q))
    replace hq := hq e13
    refine x_istore_n (lv' := [(1, .int x12), (0, rv x0)]) dX4_next_39 (by decide) (by first | rfl | (simp [rv_cat, Value.category]; done) | (simp [rv_cat, Value.category]; decide)) ?_
    refine x_iload_n 0 dX4_next_40 rfl ?_
    obtain ⟨g14, g15, hq⟩ := hq
    refine x_callSN (Yc := YX0_isLetter) (as := [.int x12]) (st := []) (List.mem_filter.mpr ⟨q1627, rfl⟩) msX0_isLetter rfl dX4_next_41 (xle (xal1 rfl xal0) (by decide)) (xfr g14) (xlo xsw0 (by decide) g15) (xKi hq (fun x17 h16 hq e18 => ?_) (fun _ _ q _ => q))
    replace hq := hq e18
    refine x_if_eq (tgt := 52) dX4_next_44 (by decide) (fun c19 => ?_) (fun c19 => ?_)
    · replace hq := hq.1 c19
      refine x_iload_n 0 dX4_next_52 rfl ?_
      obtain ⟨g20, g21, hq⟩ := hq
      refine x_callSN (Yc := YX0_isDigit) (as := [.int x12]) (st := []) (List.mem_filter.mpr ⟨q1635, rfl⟩) msX0_isDigit rfl dX4_next_53 (xle (xal1 rfl xal0) (by decide)) (xfr g20) (xlo xsw0 (by decide) g21) (xKi hq (fun x23 h22 hq e24 => ?_) (fun _ _ q _ => q))
      replace hq := hq e24
      refine x_if_eq (tgt := 64) dX4_next_56 (by decide) (fun c25 => ?_) (fun c25 => ?_)
      · replace hq := hq.1 c25
        refine x_iload_n 0 dX4_next_64 rfl ?_
        refine x_bipush (v := 39) dX4_next_65 (by decide) ?_
        refine x_icmp_ne (tgt := 77) dX4_next_67 (by decide) (fun c26 => ?_) (fun c26 => ?_)
        · replace hq := hq.1 c26
          refine x_aload_n 1 dX4_next_77 rfl ?_
          have t27 : tg h11 x0 = 5 := e13.tg t7 (by decide)
          have t28 : tg h16 x0 = 5 := e18.tg t27 (by decide)
          have t29 : tg h22 x0 = 5 := e24.tg t28 (by decide)
          obtain ⟨g30, g31, hq⟩ := hq
          refine x_callV (Yc := YX4_sign) (as := []) (st := []) q1689 mvX4_sign t29 rfl dX4_next_78 (xle (xal1 (rv_cat _) xal0) (by decide)) (xfr g30) (xlo xsw0 (by decide) g31) (xKr hq (fun x33 h32 hq e34 => ?_) (fun _ _ q _ => q))
          replace hq := hq e34
          refine xP.pick (lv' := []) [] rfl ?_
          exact uX4_next_81 hq
        · replace hq := hq.2 c26
          refine x_aload_n 1 dX4_next_70 rfl ?_
          have t35 : tg h11 x0 = 5 := e13.tg t7 (by decide)
          have t36 : tg h16 x0 = 5 := e18.tg t35 (by decide)
          have t37 : tg h22 x0 = 5 := e24.tg t36 (by decide)
          obtain ⟨g38, g39, hq⟩ := hq
          refine x_callV (Yc := YX4_string) (as := []) (st := []) q1682 mvX4_string t37 rfl dX4_next_71 (xle (xal1 (rv_cat _) xal0) (by decide)) (xfr g38) (xlo xsw0 (by decide) g39) (xKr hq (fun x41 h40 hq e42 => ?_) (fun _ _ q _ => q))
          replace hq := hq e42
          refine x_goto (tgt := 81) dX4_next_74 (by decide) ?_
          refine xP.pick (lv' := []) [] rfl ?_
          exact uX4_next_81 hq
      · replace hq := hq.2 c25
        refine x_aload_n 1 dX4_next_59 rfl ?_
        have t43 : tg h11 x0 = 5 := e13.tg t7 (by decide)
        have t44 : tg h16 x0 = 5 := e18.tg t43 (by decide)
        have t45 : tg h22 x0 = 5 := e24.tg t44 (by decide)
        obtain ⟨g46, g47, hq⟩ := hq
        refine x_callV (Yc := YX4_number) (as := []) (st := []) q1655 mvX4_number t45 rfl dX4_next_60 (xle (xal1 (rv_cat _) xal0) (by decide)) (xfr g46) (xlo xsw0 (by decide) g47) (xKr hq (fun x49 h48 hq e50 => ?_) (fun _ _ q _ => q))
        replace hq := hq e50
        exact x_aret rfl xty_O dX4_next_63 hq
    · replace hq := hq.2 c19
      refine x_aload_n 1 dX4_next_47 rfl ?_
      have t51 : tg h11 x0 = 5 := e13.tg t7 (by decide)
      have t52 : tg h16 x0 = 5 := e18.tg t51 (by decide)
      obtain ⟨g53, g54, hq⟩ := hq
      refine x_callV (Yc := YX4_word) (as := []) (st := []) q1630 mvX4_word t52 rfl dX4_next_48 (xle (xal1 (rv_cat _) xal0) (by decide)) (xfr g53) (xlo xsw0 (by decide) g54) (xKr hq (fun x56 h55 hq e57 => ?_) (fun _ _ q _ => q))
      replace hq := hq e57
      exact x_aret rfl xty_O dX4_next_51 hq
  · replace hq := hq.2 c8
    obtain ⟨g58, g59, hq⟩ := hq
    obtain ⟨a60, e62⟩ : ∃ y, y = nx h4 + 1 := ⟨_, rfl⟩
    obtain ⟨h61, e63⟩ : ∃ y, y = nO h4 15 5 := ⟨_, rfl⟩
    refine x_new' cdX4_58 dX4_next_15 g58 g59 e62 e63 (fun f64 => ?_)
    replace hq := hq a60 h61 e62 e63 f64
    have t65 : tg h61 a60 = 15 := by rw [e63, e62]; exact tg_nO
    refine x_dup dX4_next_18 (rv_cat _) ?_
    refine x_gets (v := rv (xGS G 5)) 5 rfl q1595 (by simp [xsv]) dX4_next_19 ?_
    refine x_ldcS (n := 45) 45 srX4_66 dX4_next_22 ?_
    refine x_aload_n 0 dX4_next_24 rfl ?_
    have t66 : tg h61 x0 = 5 := by rw [e63]; exact tg_nO_ne e62 f64 t7 (by decide)
    refine x_get (v := .int (fI h61 x0 1028)) fdX4_32 dX4_next_25 t66 rfl ?_
    refine x_iconst (v := 0) dX4_next_28 (by decide) ?_
    refine x_dconst0 dX4_next_29 ?_
    obtain ⟨g67, g68, hq⟩ := hq
    refine x_callI (Yc := YX14_init) (as := [rv (xGS G 5), rv (tx G 45), .int (fI h61 x0 1028), .int 0, .double FP.dconst0]) (st := [rv a60]) q1598 miX14_init (by rw [t65]; decide) rfl dX4_next_30 (xle (xal1 (rv_cat _) (xal1 (rv_cat _) (xal1 (rv_cat _) (xal1 rfl (xal1 rfl (xal2 rfl xal0)))))) (by decide)) (xfr g67) (xlo (xsw1 (rv_cat _) xsw0) (by decide) g68) (xKv hq (fun h69 hq e71 => ?_) (fun _ _ q _ => q))
    replace hq := hq e71
    exact x_aret rfl xty_O dX4_next_33 hq
theorem rX4_next {G : xG} {fr lo : Nat} {x0 : Nat} {h : xH} {Q : Outcome → xH → Prop} (hq : bX4_next G fr lo x0 h Q) : xR G YX4_next fr lo [rv x0] h Q := by
  show xP _ _ _ _ _ (lv_args 0 _) _ _ _
  rw [show lv_args 0 [rv x0] = [(0, rv x0)] from (xla1 (rv_cat _) xla0)]
  exact uX4_next hq
set_option maxRecDepth 100000 in
theorem dX4_pass_0 : decode cX4_pass 0 = .ok (.iconst 1, 1) := by decide +kernel
set_option maxRecDepth 100000 in
theorem dX4_pass_1 : decode cX4_pass 1 = .ok (.istore_n 1, 1) := by decide +kernel
set_option maxRecDepth 100000 in
theorem dX4_pass_2 : decode cX4_pass 2 = .ok (.iload_n 1, 1) := by decide +kernel
set_option maxRecDepth 100000 in
theorem dX4_pass_3 : decode cX4_pass 3 = .ok (.ifCond .eq 102, 3) := by decide +kernel
set_option maxRecDepth 100000 in
theorem dX4_pass_6 : decode cX4_pass 6 = .ok (.aload_n 0, 1) := by decide +kernel
set_option maxRecDepth 100000 in
theorem dX4_pass_7 : decode cX4_pass 7 = .ok (.getfield 36, 3) := by decide +kernel
set_option maxRecDepth 100000 in
theorem dX4_pass_10 : decode cX4_pass 10 = .ok (.aload_n 0, 1) := by decide +kernel
set_option maxRecDepth 100000 in
theorem dX4_pass_11 : decode cX4_pass 11 = .ok (.getfield 32, 3) := by decide +kernel
set_option maxRecDepth 100000 in
theorem dX4_pass_14 : decode cX4_pass 14 = .ok (.if_icmp .ge 44, 3) := by decide +kernel
set_option maxRecDepth 100000 in
theorem dX4_pass_17 : decode cX4_pass 17 = .ok (.aload_n 0, 1) := by decide +kernel
set_option maxRecDepth 100000 in
theorem dX4_pass_18 : decode cX4_pass 18 = .ok (.getfield 20, 3) := by decide +kernel
set_option maxRecDepth 100000 in
theorem dX4_pass_21 : decode cX4_pass 21 = .ok (.aload_n 0, 1) := by decide +kernel
set_option maxRecDepth 100000 in
theorem dX4_pass_22 : decode cX4_pass 22 = .ok (.getfield 36, 3) := by decide +kernel
set_option maxRecDepth 100000 in
theorem dX4_pass_25 : decode cX4_pass 25 = .ok (.baload, 1) := by decide +kernel
set_option maxRecDepth 100000 in
theorem dX4_pass_26 : decode cX4_pass 26 = .ok (.bipush 32, 2) := by decide +kernel
set_option maxRecDepth 100000 in
theorem dX4_pass_28 : decode cX4_pass 28 = .ok (.if_icmp .eq 17, 3) := by decide +kernel
set_option maxRecDepth 100000 in
theorem dX4_pass_31 : decode cX4_pass 31 = .ok (.aload_n 0, 1) := by decide +kernel
set_option maxRecDepth 100000 in
theorem dX4_pass_32 : decode cX4_pass 32 = .ok (.getfield 20, 3) := by decide +kernel
set_option maxRecDepth 100000 in
theorem dX4_pass_35 : decode cX4_pass 35 = .ok (.aload_n 0, 1) := by decide +kernel
set_option maxRecDepth 100000 in
theorem dX4_pass_36 : decode cX4_pass 36 = .ok (.getfield 36, 3) := by decide +kernel
set_option maxRecDepth 100000 in
theorem dX4_pass_39 : decode cX4_pass 39 = .ok (.baload, 1) := by decide +kernel
set_option maxRecDepth 100000 in
theorem dX4_pass_40 : decode cX4_pass 40 = .ok (.bipush 10, 2) := by decide +kernel
set_option maxRecDepth 100000 in
theorem dX4_pass_42 : decode cX4_pass 42 = .ok (.if_icmp .ne 16, 3) := by decide +kernel
set_option maxRecDepth 100000 in
theorem dX4_pass_45 : decode cX4_pass 45 = .ok (.aload_n 0, 1) := by decide +kernel
set_option maxRecDepth 100000 in
theorem dX4_pass_46 : decode cX4_pass 46 = .ok (.dup, 1) := by decide +kernel
set_option maxRecDepth 100000 in
theorem dX4_pass_47 : decode cX4_pass 47 = .ok (.getfield 36, 3) := by decide +kernel
set_option maxRecDepth 100000 in
theorem dX4_pass_50 : decode cX4_pass 50 = .ok (.iconst 1, 1) := by decide +kernel
set_option maxRecDepth 100000 in
theorem dX4_pass_51 : decode cX4_pass 51 = .ok (.iadd, 1) := by decide +kernel
set_option maxRecDepth 100000 in
theorem dX4_pass_52 : decode cX4_pass 52 = .ok (.putfield 36, 3) := by decide +kernel
set_option maxRecDepth 100000 in
theorem dX4_pass_55 : decode cX4_pass 55 = .ok (.goto (-49), 3) := by decide +kernel
set_option maxRecDepth 100000 in
theorem dX4_pass_58 : decode cX4_pass 58 = .ok (.aload_n 0, 1) := by decide +kernel
set_option maxRecDepth 100000 in
theorem dX4_pass_59 : decode cX4_pass 59 = .ok (.iconst 0, 1) := by decide +kernel
set_option maxRecDepth 100000 in
theorem dX4_pass_60 : decode cX4_pass 60 = .ok (.invokevirtual 44, 3) := by decide +kernel
set_option maxRecDepth 100000 in
theorem dX4_pass_63 : decode cX4_pass 63 = .ok (.bipush 123, 2) := by decide +kernel
set_option maxRecDepth 100000 in
theorem dX4_pass_65 : decode cX4_pass 65 = .ok (.if_icmp .eq 23, 3) := by decide +kernel
set_option maxRecDepth 100000 in
theorem dX4_pass_68 : decode cX4_pass 68 = .ok (.aload_n 0, 1) := by decide +kernel
set_option maxRecDepth 100000 in
theorem dX4_pass_69 : decode cX4_pass 69 = .ok (.iconst 0, 1) := by decide +kernel
set_option maxRecDepth 100000 in
theorem dX4_pass_70 : decode cX4_pass 70 = .ok (.invokevirtual 44, 3) := by decide +kernel
set_option maxRecDepth 100000 in
theorem dX4_pass_73 : decode cX4_pass 73 = .ok (.bipush 40, 2) := by decide +kernel
set_option maxRecDepth 100000 in
theorem dX4_pass_75 : decode cX4_pass 75 = .ok (.if_icmp .ne 17, 3) := by decide +kernel
set_option maxRecDepth 100000 in
theorem dX4_pass_78 : decode cX4_pass 78 = .ok (.aload_n 0, 1) := by decide +kernel
set_option maxRecDepth 100000 in
theorem dX4_pass_79 : decode cX4_pass 79 = .ok (.iconst 1, 1) := by decide +kernel
set_option maxRecDepth 100000 in
theorem dX4_pass_80 : decode cX4_pass 80 = .ok (.invokevirtual 44, 3) := by decide +kernel
set_option maxRecDepth 100000 in
theorem dX4_pass_83 : decode cX4_pass 83 = .ok (.bipush 42, 2) := by decide +kernel
set_option maxRecDepth 100000 in
theorem dX4_pass_85 : decode cX4_pass 85 = .ok (.if_icmp .ne 7, 3) := by decide +kernel
set_option maxRecDepth 100000 in
theorem dX4_pass_88 : decode cX4_pass 88 = .ok (.iconst 1, 1) := by decide +kernel
set_option maxRecDepth 100000 in
theorem dX4_pass_89 : decode cX4_pass 89 = .ok (.goto 4, 3) := by decide +kernel
set_option maxRecDepth 100000 in
theorem dX4_pass_92 : decode cX4_pass 92 = .ok (.iconst 0, 1) := by decide +kernel
set_option maxRecDepth 100000 in
theorem dX4_pass_93 : decode cX4_pass 93 = .ok (.istore_n 1, 1) := by decide +kernel
set_option maxRecDepth 100000 in
theorem dX4_pass_94 : decode cX4_pass 94 = .ok (.iload_n 1, 1) := by decide +kernel
set_option maxRecDepth 100000 in
theorem dX4_pass_95 : decode cX4_pass 95 = .ok (.ifCond .eq (-93), 3) := by decide +kernel
set_option maxRecDepth 100000 in
theorem dX4_pass_98 : decode cX4_pass 98 = .ok (.aload_n 0, 1) := by decide +kernel
set_option maxRecDepth 100000 in
theorem dX4_pass_99 : decode cX4_pass 99 = .ok (.invokevirtual 48, 3) := by decide +kernel
set_option maxRecDepth 100000 in
theorem dX4_pass_102 : decode cX4_pass 102 = .ok (.goto (-100), 3) := by decide +kernel
set_option maxRecDepth 100000 in
theorem dX4_pass_105 : decode cX4_pass 105 = .ok (.return_, 1) := by decide +kernel
def lX4_pass_2 (G : xG) (fr lo : Nat) (x0 : Nat) (x1 : Int32) (h : xH) (Q : Outcome → xH → Prop) : Prop := xP G YX4_pass fr lo 2 [(0, rv x0), (1, .int x1)] [] h Q
def lX4_pass_6 (G : xG) (fr lo : Nat) (x0 : Nat) (h : xH) (Q : Outcome → xH → Prop) : Prop := xP G YX4_pass fr lo 6 [(0, rv x0)] [] h Q
set_option maxRecDepth 100000 in
def bX4_pass_93 (G : xG) (fr lo : Nat) (x0 : Nat) (s0 : Int32) (h : xH) (Q : Outcome → xH → Prop) : Prop := ((s0 = 0 → lX4_pass_2 G fr lo x0 s0 h Q) ∧ (¬ s0 = 0 → tg h x0 = 5 ∧ 1 ≤ fr ∧ 13 ≤ lo ∧ xRv G YX4_passComment (fr - 1) (lo - 13) [rv x0] h (fun h5 => xext h h5 → lX4_pass_2 G fr lo x0 s0 h5 Q) (fun r h2 => Q (.threw r) h2)))
set_option maxRecDepth 100000 in
theorem uX4_pass_93 {G : xG} {fr lo : Nat} {x0 : Nat} {s0 : Int32} {h : xH} {Q : Outcome → xH → Prop} (hq : bX4_pass_93 G fr lo x0 s0 h Q) : xP G YX4_pass fr lo 93 [(0, rv x0)] [.int s0] h Q := by
  unfold bX4_pass_93 at hq
  refine x_istore_n (lv' := [(1, .int s0), (0, rv x0)]) dX4_pass_93 (by decide) (by first | rfl | (simp [rv_cat, Value.category]; done) | (simp [rv_cat, Value.category]; decide)) ?_
  refine x_iload_n 0 dX4_pass_94 rfl ?_
  refine x_if_eq (tgt := 2) dX4_pass_95 (by decide) (fun c1 => ?_) (fun c1 => ?_)
  · replace hq := hq.1 c1
    refine xP.pick (lv' := [(0, rv x0), (1, .int s0)]) [1, 0] rfl ?_
    exact hq
  · replace hq := hq.2 c1
    refine x_aload_n 1 dX4_pass_98 rfl ?_
    obtain ⟨g2, hq⟩ := hq
    obtain ⟨g3, g4, hq⟩ := hq
    refine x_callV (Yc := YX4_passComment) (as := []) (st := []) q1584 mvX4_passComment g2 rfl dX4_pass_99 (xle (xal1 (rv_cat _) xal0) (by decide)) (xfr g3) (xlo xsw0 (by decide) g4) (xKv hq (fun h5 hq e7 => ?_) (fun _ _ q _ => q))
    replace hq := hq e7
    refine x_goto (tgt := 2) dX4_pass_102 (by decide) ?_
    refine xP.pick (lv' := [(0, rv x0), (1, .int s0)]) [1, 0] rfl ?_
    exact hq
set_option maxRecDepth 100000 in
def bX4_pass_92 (G : xG) (fr lo : Nat) (x0 : Nat) (h : xH) (Q : Outcome → xH → Prop) : Prop := bX4_pass_93 G fr lo x0 0 h Q
set_option maxRecDepth 100000 in
theorem uX4_pass_92 {G : xG} {fr lo : Nat} {x0 : Nat} {h : xH} {Q : Outcome → xH → Prop} (hq : bX4_pass_92 G fr lo x0 h Q) : xP G YX4_pass fr lo 92 [(0, rv x0)] [] h Q := by
  unfold bX4_pass_92 at hq
  refine x_iconst (v := 0) dX4_pass_92 (by decide) ?_
  exact uX4_pass_93 hq
set_option maxRecDepth 100000 in
def bX4_pass_88 (G : xG) (fr lo : Nat) (x0 : Nat) (h : xH) (Q : Outcome → xH → Prop) : Prop := bX4_pass_93 G fr lo x0 1 h Q
set_option maxRecDepth 100000 in
theorem uX4_pass_88 {G : xG} {fr lo : Nat} {x0 : Nat} {h : xH} {Q : Outcome → xH → Prop} (hq : bX4_pass_88 G fr lo x0 h Q) : xP G YX4_pass fr lo 88 [(0, rv x0)] [] h Q := by
  unfold bX4_pass_88 at hq
  refine x_iconst (v := 1) dX4_pass_88 (by decide) ?_
  refine x_goto (tgt := 93) dX4_pass_89 (by decide) ?_
  exact uX4_pass_93 hq
set_option maxRecDepth 100000 in
def bX4_pass_58 (G : xG) (fr lo : Nat) (x0 : Nat) (h : xH) (Q : Outcome → xH → Prop) : Prop := tg h x0 = 5 ∧ 1 ≤ fr ∧ 13 ≤ lo ∧ xRi G YX4_here (fr - 1) (lo - 13) [rv x0, .int 0] h (fun x5 h4 => xext h h4 → ((x5 = 123 → bX4_pass_88 G fr lo x0 h4 Q) ∧ (¬ x5 = 123 → 1 ≤ fr ∧ 13 ≤ lo ∧ xRi G YX4_here (fr - 1) (lo - 13) [rv x0, .int 0] h4 (fun x12 h11 => xext h4 h11 → ((¬ x12 = 40 → bX4_pass_92 G fr lo x0 h11 Q) ∧ (x12 = 40 → 1 ≤ fr ∧ 13 ≤ lo ∧ xRi G YX4_here (fr - 1) (lo - 13) [rv x0, .int 1] h11 (fun x19 h18 => xext h11 h18 → ((¬ x19 = 42 → bX4_pass_92 G fr lo x0 h18 Q) ∧ (x19 = 42 → bX4_pass_88 G fr lo x0 h18 Q))) (fun r h2 => Q (.threw r) h2)))) (fun r h2 => Q (.threw r) h2)))) (fun r h2 => Q (.threw r) h2)
set_option maxRecDepth 100000 in
theorem uX4_pass_58 {G : xG} {fr lo : Nat} {x0 : Nat} {h : xH} {Q : Outcome → xH → Prop} (hq : bX4_pass_58 G fr lo x0 h Q) : xP G YX4_pass fr lo 58 [(0, rv x0)] [] h Q := by
  unfold bX4_pass_58 at hq
  refine x_aload_n 0 dX4_pass_58 rfl ?_
  refine x_iconst (v := 0) dX4_pass_59 (by decide) ?_
  obtain ⟨g1, hq⟩ := hq
  obtain ⟨g2, g3, hq⟩ := hq
  refine x_callV (Yc := YX4_here) (as := [.int 0]) (st := []) q1580 mvX4_here g1 rfl dX4_pass_60 (xle (xal1 (rv_cat _) (xal1 rfl xal0)) (by decide)) (xfr g2) (xlo xsw0 (by decide) g3) (xKi hq (fun x5 h4 hq e6 => ?_) (fun _ _ q _ => q))
  replace hq := hq e6
  refine x_bipush (v := 123) dX4_pass_63 (by decide) ?_
  refine x_icmp_eq (tgt := 88) dX4_pass_65 (by decide) (fun c7 => ?_) (fun c7 => ?_)
  · replace hq := hq.1 c7
    exact uX4_pass_88 hq
  · replace hq := hq.2 c7
    refine x_aload_n 0 dX4_pass_68 rfl ?_
    refine x_iconst (v := 0) dX4_pass_69 (by decide) ?_
    have t8 : tg h4 x0 = 5 := e6.tg g1 (by decide)
    obtain ⟨g9, g10, hq⟩ := hq
    refine x_callV (Yc := YX4_here) (as := [.int 0]) (st := []) q1580 mvX4_here t8 rfl dX4_pass_70 (xle (xal1 (rv_cat _) (xal1 rfl xal0)) (by decide)) (xfr g9) (xlo xsw0 (by decide) g10) (xKi hq (fun x12 h11 hq e13 => ?_) (fun _ _ q _ => q))
    replace hq := hq e13
    refine x_bipush (v := 40) dX4_pass_73 (by decide) ?_
    refine x_icmp_ne (tgt := 92) dX4_pass_75 (by decide) (fun c14 => ?_) (fun c14 => ?_)
    · replace hq := hq.1 c14
      exact uX4_pass_92 hq
    · replace hq := hq.2 c14
      refine x_aload_n 0 dX4_pass_78 rfl ?_
      refine x_iconst (v := 1) dX4_pass_79 (by decide) ?_
      have t15 : tg h11 x0 = 5 := e13.tg t8 (by decide)
      obtain ⟨g16, g17, hq⟩ := hq
      refine x_callV (Yc := YX4_here) (as := [.int 1]) (st := []) q1580 mvX4_here t15 rfl dX4_pass_80 (xle (xal1 (rv_cat _) (xal1 rfl xal0)) (by decide)) (xfr g16) (xlo xsw0 (by decide) g17) (xKi hq (fun x19 h18 hq e20 => ?_) (fun _ _ q _ => q))
      replace hq := hq e20
      refine x_bipush (v := 42) dX4_pass_83 (by decide) ?_
      refine x_icmp_ne (tgt := 92) dX4_pass_85 (by decide) (fun c21 => ?_) (fun c21 => ?_)
      · replace hq := hq.1 c21
        exact uX4_pass_92 hq
      · replace hq := hq.2 c21
        exact uX4_pass_88 hq
set_option maxRecDepth 100000 in
def bX4_pass_45 (G : xG) (fr lo : Nat) (x0 : Nat) (h : xH) (Q : Outcome → xH → Prop) : Prop := tg h x0 = 5 ∧ (∀ h2 : xH, h2 = sI h x0 1029 ((fI h x0 1029) + 1) → lX4_pass_6 G fr lo x0 h2 Q)
set_option maxRecDepth 100000 in
theorem uX4_pass_45 {G : xG} {fr lo : Nat} {x0 : Nat} {h : xH} {Q : Outcome → xH → Prop} (hq : bX4_pass_45 G fr lo x0 h Q) : xP G YX4_pass fr lo 45 [(0, rv x0)] [] h Q := by
  unfold bX4_pass_45 at hq
  refine x_aload_n 0 dX4_pass_45 rfl ?_
  refine x_dup dX4_pass_46 (rv_cat _) ?_
  obtain ⟨g1, hq⟩ := hq
  refine x_get (v := .int (fI h x0 1029)) fdX4_36 dX4_pass_47 g1 rfl ?_
  refine x_iconst (v := 1) dX4_pass_50 (by decide) ?_
  refine x_iadd dX4_pass_51 ?_
  obtain ⟨h2, e3⟩ : ∃ y, y = sI h x0 1029 ((fI h x0 1029) + 1) := ⟨_, rfl⟩
  replace hq := hq h2 e3
  refine x_putI fdX4_36 xty_I1 dX4_pass_52 g1 (Or.inl (by rw [g1]; rfl)) xnI rfl e3 ?_
  refine x_goto (tgt := 6) dX4_pass_55 (by decide) ?_
  exact hq
set_option maxRecDepth 100000 in
def bX4_pass_6 (G : xG) (fr lo : Nat) (x0 : Nat) (h : xH) (Q : Outcome → xH → Prop) : Prop := tg h x0 = 5 ∧ (((fI h x0 1028) ≤ (fI h x0 1029) → bX4_pass_58 G fr lo x0 h Q) ∧ (¬ (fI h x0 1028) ≤ (fI h x0 1029) → tg h (fR h x0 1024) = 103 ∧ vp_in (fI h x0 1029) (ln h (fR h x0 1024)) ∧ (((aI h (fR h x0 1024) (Int32.toNatClampNeg (fI h x0 1029))) = 32 → bX4_pass_45 G fr lo x0 h Q) ∧ (¬ (aI h (fR h x0 1024) (Int32.toNatClampNeg (fI h x0 1029))) = 32 → vp_in (fI h x0 1029) (ln h (fR h x0 1024)) ∧ ((¬ (aI h (fR h x0 1024) (Int32.toNatClampNeg (fI h x0 1029))) = 10 → bX4_pass_58 G fr lo x0 h Q) ∧ ((aI h (fR h x0 1024) (Int32.toNatClampNeg (fI h x0 1029))) = 10 → bX4_pass_45 G fr lo x0 h Q))))))
set_option maxRecDepth 100000 in
theorem uX4_pass_6 {G : xG} {fr lo : Nat} {x0 : Nat} {h : xH} {Q : Outcome → xH → Prop} (hq : bX4_pass_6 G fr lo x0 h Q) : xP G YX4_pass fr lo 6 [(0, rv x0)] [] h Q := by
  unfold bX4_pass_6 at hq
  refine x_aload_n 0 dX4_pass_6 rfl ?_
  obtain ⟨g1, hq⟩ := hq
  refine x_get (v := .int (fI h x0 1029)) fdX4_36 dX4_pass_7 g1 rfl ?_
  refine x_aload_n 0 dX4_pass_10 rfl ?_
  refine x_get (v := .int (fI h x0 1028)) fdX4_32 dX4_pass_11 g1 rfl ?_
  refine x_icmp_ge (tgt := 58) dX4_pass_14 (by decide) (fun c2 => ?_) (fun c2 => ?_)
  · replace hq := hq.1 c2
    exact uX4_pass_58 hq
  · replace hq := hq.2 c2
    refine x_aload_n 0 dX4_pass_17 rfl ?_
    refine x_get (v := rv (fR h x0 1024)) fdX4_20 dX4_pass_18 g1 rfl ?_
    refine x_aload_n 0 dX4_pass_21 rfl ?_
    refine x_get (v := .int (fI h x0 1029)) fdX4_36 dX4_pass_22 g1 rfl ?_
    obtain ⟨g3, hq⟩ := hq
    obtain ⟨i4, hq⟩ := hq
    refine x_bald g3 i4 dX4_pass_25 ?_
    refine x_bipush (v := 32) dX4_pass_26 (by decide) ?_
    refine x_icmp_eq (tgt := 45) dX4_pass_28 (by decide) (fun c5 => ?_) (fun c5 => ?_)
    · replace hq := hq.1 c5
      exact uX4_pass_45 hq
    · replace hq := hq.2 c5
      refine x_aload_n 0 dX4_pass_31 rfl ?_
      refine x_get (v := rv (fR h x0 1024)) fdX4_20 dX4_pass_32 g1 rfl ?_
      refine x_aload_n 0 dX4_pass_35 rfl ?_
      refine x_get (v := .int (fI h x0 1029)) fdX4_36 dX4_pass_36 g1 rfl ?_
      obtain ⟨i6, hq⟩ := hq
      refine x_bald g3 i6 dX4_pass_39 ?_
      refine x_bipush (v := 10) dX4_pass_40 (by decide) ?_
      refine x_icmp_ne (tgt := 58) dX4_pass_42 (by decide) (fun c7 => ?_) (fun c7 => ?_)
      · replace hq := hq.1 c7
        exact uX4_pass_58 hq
      · replace hq := hq.2 c7
        exact uX4_pass_45 hq
set_option maxRecDepth 100000 in
def bX4_pass_2 (G : xG) (fr lo : Nat) (x0 : Nat) (x1 : Int32) (h : xH) (Q : Outcome → xH → Prop) : Prop := ((x1 = 0 → Q (.returned none) h) ∧ (¬ x1 = 0 → lX4_pass_6 G fr lo x0 h Q))
set_option maxRecDepth 100000 in
theorem uX4_pass_2 {G : xG} {fr lo : Nat} {x0 : Nat} {x1 : Int32} {h : xH} {Q : Outcome → xH → Prop} (hq : bX4_pass_2 G fr lo x0 x1 h Q) : xP G YX4_pass fr lo 2 [(0, rv x0), (1, .int x1)] [] h Q := by
  unfold bX4_pass_2 at hq
  refine x_iload_n 1 dX4_pass_2 rfl ?_
  refine x_if_eq (tgt := 105) dX4_pass_3 (by decide) (fun c1 => ?_) (fun c1 => ?_)
  · replace hq := hq.1 c1
    exact x_vret rfl dX4_pass_105 hq
  · replace hq := hq.2 c1
    refine xP.pick (lv' := [(0, rv x0)]) [0] rfl ?_
    exact hq
set_option maxRecDepth 100000 in
def bX4_pass (G : xG) (fr lo : Nat) (x0 : Nat) (h : xH) (Q : Outcome → xH → Prop) : Prop := lX4_pass_2 G fr lo x0 1 h Q
set_option maxRecDepth 100000 in
theorem uX4_pass {G : xG} {fr lo : Nat} {x0 : Nat} {h : xH} {Q : Outcome → xH → Prop} (hq : bX4_pass G fr lo x0 h Q) : xP G YX4_pass fr lo 0 [(0, rv x0)] [] h Q := by
  unfold bX4_pass at hq
  refine x_iconst (v := 1) dX4_pass_0 (by decide) ?_
  refine x_istore_n (lv' := [(1, .int 1), (0, rv x0)]) dX4_pass_1 (by decide) (by first | rfl | (simp [rv_cat, Value.category]; done) | (simp [rv_cat, Value.category]; decide)) ?_
  refine xP.pick (lv' := [(0, rv x0), (1, .int 1)]) [1, 0] rfl ?_
  exact hq
theorem rX4_pass {G : xG} {fr lo : Nat} {x0 : Nat} {h : xH} {Q : Outcome → xH → Prop} (hq : bX4_pass G fr lo x0 h Q) : xR G YX4_pass fr lo [rv x0] h Q := by
  show xP _ _ _ _ _ (lv_args 0 _) _ _ _
  rw [show lv_args 0 [rv x0] = [(0, rv x0)] from (xla1 (rv_cat _) xla0)]
  exact uX4_pass hq
set_option maxRecDepth 100000 in
theorem dX4_here_0 : decode cX4_here 0 = .ok (.aload_n 0, 1) := by decide +kernel
set_option maxRecDepth 100000 in
theorem dX4_here_1 : decode cX4_here 1 = .ok (.getfield 36, 3) := by decide +kernel
set_option maxRecDepth 100000 in
theorem dX4_here_4 : decode cX4_here 4 = .ok (.iload_n 1, 1) := by decide +kernel
set_option maxRecDepth 100000 in
theorem dX4_here_5 : decode cX4_here 5 = .ok (.iadd, 1) := by decide +kernel
set_option maxRecDepth 100000 in
theorem dX4_here_6 : decode cX4_here 6 = .ok (.aload_n 0, 1) := by decide +kernel
set_option maxRecDepth 100000 in
theorem dX4_here_7 : decode cX4_here 7 = .ok (.getfield 32, 3) := by decide +kernel
set_option maxRecDepth 100000 in
theorem dX4_here_10 : decode cX4_here 10 = .ok (.if_icmp .ge 21, 3) := by decide +kernel
set_option maxRecDepth 100000 in
theorem dX4_here_13 : decode cX4_here 13 = .ok (.aload_n 0, 1) := by decide +kernel
set_option maxRecDepth 100000 in
theorem dX4_here_14 : decode cX4_here 14 = .ok (.getfield 20, 3) := by decide +kernel
set_option maxRecDepth 100000 in
theorem dX4_here_17 : decode cX4_here 17 = .ok (.aload_n 0, 1) := by decide +kernel
set_option maxRecDepth 100000 in
theorem dX4_here_18 : decode cX4_here 18 = .ok (.getfield 36, 3) := by decide +kernel
set_option maxRecDepth 100000 in
theorem dX4_here_21 : decode cX4_here 21 = .ok (.iload_n 1, 1) := by decide +kernel
set_option maxRecDepth 100000 in
theorem dX4_here_22 : decode cX4_here 22 = .ok (.iadd, 1) := by decide +kernel
set_option maxRecDepth 100000 in
theorem dX4_here_23 : decode cX4_here 23 = .ok (.baload, 1) := by decide +kernel
set_option maxRecDepth 100000 in
theorem dX4_here_24 : decode cX4_here 24 = .ok (.sipush 255, 3) := by decide +kernel
set_option maxRecDepth 100000 in
theorem dX4_here_27 : decode cX4_here 27 = .ok (.iand, 1) := by decide +kernel
set_option maxRecDepth 100000 in
theorem dX4_here_28 : decode cX4_here 28 = .ok (.goto 4, 3) := by decide +kernel
set_option maxRecDepth 100000 in
theorem dX4_here_31 : decode cX4_here 31 = .ok (.iconst 0, 1) := by decide +kernel
set_option maxRecDepth 100000 in
theorem dX4_here_32 : decode cX4_here 32 = .ok (.ireturn, 1) := by decide +kernel
set_option maxRecDepth 100000 in
def bX4_here_32 (G : xG) (fr lo : Nat) (s0 : Int32) (h : xH) (Q : Outcome → xH → Prop) : Prop := Q (.returned (some (.int s0))) h
set_option maxRecDepth 100000 in
theorem uX4_here_32 {G : xG} {fr lo : Nat} {s0 : Int32} {h : xH} {Q : Outcome → xH → Prop} (hq : bX4_here_32 G fr lo s0 h Q) : xP G YX4_here fr lo 32 [] [.int s0] h Q := by
  unfold bX4_here_32 at hq
  exact x_iret rfl rfl dX4_here_32 hq
set_option maxRecDepth 100000 in
def bX4_here (G : xG) (fr lo : Nat) (x0 : Nat) (x1 : Int32) (h : xH) (Q : Outcome → xH → Prop) : Prop := tg h x0 = 5 ∧ (((fI h x0 1028) ≤ ((fI h x0 1029) + x1) → bX4_here_32 G fr lo 0 h Q) ∧ (¬ (fI h x0 1028) ≤ ((fI h x0 1029) + x1) → tg h (fR h x0 1024) = 103 ∧ vp_in ((fI h x0 1029) + x1) (ln h (fR h x0 1024)) ∧ bX4_here_32 G fr lo ((aI h (fR h x0 1024) (Int32.toNatClampNeg ((fI h x0 1029) + x1))) &&& 255) h Q))
set_option maxRecDepth 100000 in
theorem uX4_here {G : xG} {fr lo : Nat} {x0 : Nat} {x1 : Int32} {h : xH} {Q : Outcome → xH → Prop} (hq : bX4_here G fr lo x0 x1 h Q) : xP G YX4_here fr lo 0 [(0, rv x0), (1, .int x1)] [] h Q := by
  unfold bX4_here at hq
  refine x_aload_n 0 dX4_here_0 rfl ?_
  obtain ⟨g1, hq⟩ := hq
  refine x_get (v := .int (fI h x0 1029)) fdX4_36 dX4_here_1 g1 rfl ?_
  refine x_iload_n 1 dX4_here_4 rfl ?_
  refine x_iadd dX4_here_5 ?_
  refine x_aload_n 0 dX4_here_6 rfl ?_
  refine x_get (v := .int (fI h x0 1028)) fdX4_32 dX4_here_7 g1 rfl ?_
  refine x_icmp_ge (tgt := 31) dX4_here_10 (by decide) (fun c2 => ?_) (fun c2 => ?_)
  · replace hq := hq.1 c2
    refine x_iconst (v := 0) dX4_here_31 (by decide) ?_
    refine xP.pick (lv' := []) [] rfl ?_
    exact uX4_here_32 hq
  · replace hq := hq.2 c2
    refine x_aload_n 0 dX4_here_13 rfl ?_
    refine x_get (v := rv (fR h x0 1024)) fdX4_20 dX4_here_14 g1 rfl ?_
    refine x_aload_n 0 dX4_here_17 rfl ?_
    refine x_get (v := .int (fI h x0 1029)) fdX4_36 dX4_here_18 g1 rfl ?_
    refine x_iload_n 1 dX4_here_21 rfl ?_
    refine x_iadd dX4_here_22 ?_
    obtain ⟨g3, hq⟩ := hq
    obtain ⟨i4, hq⟩ := hq
    refine x_bald g3 i4 dX4_here_23 ?_
    refine x_sipush (v := 255) dX4_here_24 (by decide) ?_
    refine x_iand dX4_here_27 ?_
    refine x_goto (tgt := 32) dX4_here_28 (by decide) ?_
    refine xP.pick (lv' := []) [] rfl ?_
    exact uX4_here_32 hq
theorem rX4_here {G : xG} {fr lo : Nat} {x0 : Nat} {x1 : Int32} {h : xH} {Q : Outcome → xH → Prop} (hq : bX4_here G fr lo x0 x1 h Q) : xR G YX4_here fr lo [rv x0, .int x1] h Q := by
  show xP _ _ _ _ _ (lv_args 0 _) _ _ _
  rw [show lv_args 0 [rv x0, .int x1] = [(0, rv x0), (1, .int x1)] from (xla1 (rv_cat _) (xla1 rfl xla0))]
  exact uX4_here hq
set_option maxRecDepth 100000 in
theorem dX4_passComment_0 : decode cX4_passComment 0 = .ok (.aload_n 0, 1) := by decide +kernel
set_option maxRecDepth 100000 in
theorem dX4_passComment_1 : decode cX4_passComment 1 = .ok (.getfield 36, 3) := by decide +kernel
set_option maxRecDepth 100000 in
theorem dX4_passComment_4 : decode cX4_passComment 4 = .ok (.istore_n 1, 1) := by decide +kernel
set_option maxRecDepth 100000 in
theorem dX4_passComment_5 : decode cX4_passComment 5 = .ok (.aload_n 0, 1) := by decide +kernel
set_option maxRecDepth 100000 in
theorem dX4_passComment_6 : decode cX4_passComment 6 = .ok (.dup, 1) := by decide +kernel
set_option maxRecDepth 100000 in
theorem dX4_passComment_7 : decode cX4_passComment 7 = .ok (.getfield 36, 3) := by decide +kernel
set_option maxRecDepth 100000 in
theorem dX4_passComment_10 : decode cX4_passComment 10 = .ok (.aload_n 0, 1) := by decide +kernel
set_option maxRecDepth 100000 in
theorem dX4_passComment_11 : decode cX4_passComment 11 = .ok (.iconst 0, 1) := by decide +kernel
set_option maxRecDepth 100000 in
theorem dX4_passComment_12 : decode cX4_passComment 12 = .ok (.invokevirtual 44, 3) := by decide +kernel
set_option maxRecDepth 100000 in
theorem dX4_passComment_15 : decode cX4_passComment 15 = .ok (.bipush 123, 2) := by decide +kernel
set_option maxRecDepth 100000 in
theorem dX4_passComment_17 : decode cX4_passComment 17 = .ok (.if_icmp .ne 7, 3) := by decide +kernel
set_option maxRecDepth 100000 in
theorem dX4_passComment_20 : decode cX4_passComment 20 = .ok (.iconst 1, 1) := by decide +kernel
set_option maxRecDepth 100000 in
theorem dX4_passComment_21 : decode cX4_passComment 21 = .ok (.goto 4, 3) := by decide +kernel
set_option maxRecDepth 100000 in
theorem dX4_passComment_24 : decode cX4_passComment 24 = .ok (.iconst 2, 1) := by decide +kernel
set_option maxRecDepth 100000 in
theorem dX4_passComment_25 : decode cX4_passComment 25 = .ok (.iadd, 1) := by decide +kernel
set_option maxRecDepth 100000 in
theorem dX4_passComment_26 : decode cX4_passComment 26 = .ok (.putfield 36, 3) := by decide +kernel
set_option maxRecDepth 100000 in
theorem dX4_passComment_29 : decode cX4_passComment 29 = .ok (.aload_n 0, 1) := by decide +kernel
set_option maxRecDepth 100000 in
theorem dX4_passComment_30 : decode cX4_passComment 30 = .ok (.getfield 36, 3) := by decide +kernel
set_option maxRecDepth 100000 in
theorem dX4_passComment_33 : decode cX4_passComment 33 = .ok (.aload_n 0, 1) := by decide +kernel
set_option maxRecDepth 100000 in
theorem dX4_passComment_34 : decode cX4_passComment 34 = .ok (.getfield 32, 3) := by decide +kernel
set_option maxRecDepth 100000 in
theorem dX4_passComment_37 : decode cX4_passComment 37 = .ok (.if_icmp .ge 46, 3) := by decide +kernel
set_option maxRecDepth 100000 in
theorem dX4_passComment_40 : decode cX4_passComment 40 = .ok (.aload_n 0, 1) := by decide +kernel
set_option maxRecDepth 100000 in
theorem dX4_passComment_41 : decode cX4_passComment 41 = .ok (.iconst 0, 1) := by decide +kernel
set_option maxRecDepth 100000 in
theorem dX4_passComment_42 : decode cX4_passComment 42 = .ok (.invokevirtual 44, 3) := by decide +kernel
set_option maxRecDepth 100000 in
theorem dX4_passComment_45 : decode cX4_passComment 45 = .ok (.bipush 125, 2) := by decide +kernel
set_option maxRecDepth 100000 in
theorem dX4_passComment_47 : decode cX4_passComment 47 = .ok (.if_icmp .eq 36, 3) := by decide +kernel
set_option maxRecDepth 100000 in
theorem dX4_passComment_50 : decode cX4_passComment 50 = .ok (.aload_n 0, 1) := by decide +kernel
set_option maxRecDepth 100000 in
theorem dX4_passComment_51 : decode cX4_passComment 51 = .ok (.iconst 0, 1) := by decide +kernel
set_option maxRecDepth 100000 in
theorem dX4_passComment_52 : decode cX4_passComment 52 = .ok (.invokevirtual 44, 3) := by decide +kernel
set_option maxRecDepth 100000 in
theorem dX4_passComment_55 : decode cX4_passComment 55 = .ok (.bipush 42, 2) := by decide +kernel
set_option maxRecDepth 100000 in
theorem dX4_passComment_57 : decode cX4_passComment 57 = .ok (.if_icmp .ne 13, 3) := by decide +kernel
set_option maxRecDepth 100000 in
theorem dX4_passComment_60 : decode cX4_passComment 60 = .ok (.aload_n 0, 1) := by decide +kernel
set_option maxRecDepth 100000 in
theorem dX4_passComment_61 : decode cX4_passComment 61 = .ok (.iconst 1, 1) := by decide +kernel
set_option maxRecDepth 100000 in
theorem dX4_passComment_62 : decode cX4_passComment 62 = .ok (.invokevirtual 44, 3) := by decide +kernel
set_option maxRecDepth 100000 in
theorem dX4_passComment_65 : decode cX4_passComment 65 = .ok (.bipush 41, 2) := by decide +kernel
set_option maxRecDepth 100000 in
theorem dX4_passComment_67 : decode cX4_passComment 67 = .ok (.if_icmp .eq 16, 3) := by decide +kernel
set_option maxRecDepth 100000 in
theorem dX4_passComment_70 : decode cX4_passComment 70 = .ok (.aload_n 0, 1) := by decide +kernel
set_option maxRecDepth 100000 in
theorem dX4_passComment_71 : decode cX4_passComment 71 = .ok (.dup, 1) := by decide +kernel
set_option maxRecDepth 100000 in
theorem dX4_passComment_72 : decode cX4_passComment 72 = .ok (.getfield 36, 3) := by decide +kernel
set_option maxRecDepth 100000 in
theorem dX4_passComment_75 : decode cX4_passComment 75 = .ok (.iconst 1, 1) := by decide +kernel
set_option maxRecDepth 100000 in
theorem dX4_passComment_76 : decode cX4_passComment 76 = .ok (.iadd, 1) := by decide +kernel
set_option maxRecDepth 100000 in
theorem dX4_passComment_77 : decode cX4_passComment 77 = .ok (.putfield 36, 3) := by decide +kernel
set_option maxRecDepth 100000 in
theorem dX4_passComment_80 : decode cX4_passComment 80 = .ok (.goto (-51), 3) := by decide +kernel
set_option maxRecDepth 100000 in
theorem dX4_passComment_83 : decode cX4_passComment 83 = .ok (.aload_n 0, 1) := by decide +kernel
set_option maxRecDepth 100000 in
theorem dX4_passComment_84 : decode cX4_passComment 84 = .ok (.getfield 36, 3) := by decide +kernel
set_option maxRecDepth 100000 in
theorem dX4_passComment_87 : decode cX4_passComment 87 = .ok (.aload_n 0, 1) := by decide +kernel
set_option maxRecDepth 100000 in
theorem dX4_passComment_88 : decode cX4_passComment 88 = .ok (.getfield 32, 3) := by decide +kernel
set_option maxRecDepth 100000 in
theorem dX4_passComment_91 : decode cX4_passComment 91 = .ok (.if_icmp .lt 9, 3) := by decide +kernel
set_option maxRecDepth 100000 in
theorem dX4_passComment_94 : decode cX4_passComment 94 = .ok (.aload_n 0, 1) := by decide +kernel
set_option maxRecDepth 100000 in
theorem dX4_passComment_95 : decode cX4_passComment 95 = .ok (.iload_n 1, 1) := by decide +kernel
set_option maxRecDepth 100000 in
theorem dX4_passComment_96 : decode cX4_passComment 96 = .ok (.invokevirtual 51, 3) := by decide +kernel
set_option maxRecDepth 100000 in
theorem dX4_passComment_99 : decode cX4_passComment 99 = .ok (.athrow, 1) := by decide +kernel
set_option maxRecDepth 100000 in
theorem dX4_passComment_100 : decode cX4_passComment 100 = .ok (.aload_n 0, 1) := by decide +kernel
set_option maxRecDepth 100000 in
theorem dX4_passComment_101 : decode cX4_passComment 101 = .ok (.dup, 1) := by decide +kernel
set_option maxRecDepth 100000 in
theorem dX4_passComment_102 : decode cX4_passComment 102 = .ok (.getfield 36, 3) := by decide +kernel
set_option maxRecDepth 100000 in
theorem dX4_passComment_105 : decode cX4_passComment 105 = .ok (.aload_n 0, 1) := by decide +kernel
set_option maxRecDepth 100000 in
theorem dX4_passComment_106 : decode cX4_passComment 106 = .ok (.iconst 0, 1) := by decide +kernel
set_option maxRecDepth 100000 in
theorem dX4_passComment_107 : decode cX4_passComment 107 = .ok (.invokevirtual 44, 3) := by decide +kernel
set_option maxRecDepth 100000 in
theorem dX4_passComment_110 : decode cX4_passComment 110 = .ok (.bipush 125, 2) := by decide +kernel
set_option maxRecDepth 100000 in
theorem dX4_passComment_112 : decode cX4_passComment 112 = .ok (.if_icmp .ne 7, 3) := by decide +kernel
set_option maxRecDepth 100000 in
theorem dX4_passComment_115 : decode cX4_passComment 115 = .ok (.iconst 1, 1) := by decide +kernel
set_option maxRecDepth 100000 in
theorem dX4_passComment_116 : decode cX4_passComment 116 = .ok (.goto 4, 3) := by decide +kernel
set_option maxRecDepth 100000 in
theorem dX4_passComment_119 : decode cX4_passComment 119 = .ok (.iconst 2, 1) := by decide +kernel
set_option maxRecDepth 100000 in
theorem dX4_passComment_120 : decode cX4_passComment 120 = .ok (.iadd, 1) := by decide +kernel
set_option maxRecDepth 100000 in
theorem dX4_passComment_121 : decode cX4_passComment 121 = .ok (.putfield 36, 3) := by decide +kernel
set_option maxRecDepth 100000 in
theorem dX4_passComment_124 : decode cX4_passComment 124 = .ok (.return_, 1) := by decide +kernel
def lX4_passComment_29 (G : xG) (fr lo : Nat) (x0 : Nat) (x1 : Int32) (h : xH) (Q : Outcome → xH → Prop) : Prop := xP G YX4_passComment fr lo 29 [(0, rv x0), (1, .int x1)] [] h Q
set_option maxRecDepth 100000 in
def bX4_passComment_120 (G : xG) (fr lo : Nat) (s0 : Int32) (s1 : Int32) (s2 : Nat) (h : xH) (Q : Outcome → xH → Prop) : Prop := tg h s2 = 5 ∧ (∀ h2 : xH, h2 = sI h s2 1029 (s1 + s0) → Q (.returned none) h2)
set_option maxRecDepth 100000 in
theorem uX4_passComment_120 {G : xG} {fr lo : Nat} {s0 : Int32} {s1 : Int32} {s2 : Nat} {h : xH} {Q : Outcome → xH → Prop} (hq : bX4_passComment_120 G fr lo s0 s1 s2 h Q) : xP G YX4_passComment fr lo 120 [] [.int s0, .int s1, rv s2] h Q := by
  unfold bX4_passComment_120 at hq
  refine x_iadd dX4_passComment_120 ?_
  obtain ⟨g1, hq⟩ := hq
  obtain ⟨h2, e3⟩ : ∃ y, y = sI h s2 1029 (s1 + s0) := ⟨_, rfl⟩
  replace hq := hq h2 e3
  refine x_putI fdX4_36 xty_I1 dX4_passComment_121 g1 (Or.inl (by rw [g1]; rfl)) xnI rfl e3 ?_
  exact x_vret rfl dX4_passComment_124 hq
set_option maxRecDepth 100000 in
def bX4_passComment_83 (G : xG) (fr lo : Nat) (x0 : Nat) (x1 : Int32) (h : xH) (Q : Outcome → xH → Prop) : Prop := tg h x0 = 5 ∧ (((fI h x0 1029) < (fI h x0 1028) → 1 ≤ fr ∧ 15 ≤ lo ∧ xRi G YX4_here (fr - 1) (lo - 15) [rv x0, .int 0] h (fun x6 h5 => xext h h5 → ((¬ x6 = 125 → bX4_passComment_120 G fr lo 2 (fI h x0 1029) x0 h5 Q) ∧ (x6 = 125 → bX4_passComment_120 G fr lo 1 (fI h x0 1029) x0 h5 Q))) (fun r h2 => Q (.threw r) h2)) ∧ (¬ (fI h x0 1029) < (fI h x0 1028) → 1 ≤ fr ∧ 13 ≤ lo ∧ xRr G YX4_wrong (fr - 1) (lo - 13) [rv x0, .int x1] h (fun x12 h11 => xext h h11 → (∃ r14, x12 = r14 + 1 ∧ Q (.threw r14) h11)) (fun r h2 => Q (.threw r) h2)))
set_option maxRecDepth 100000 in
theorem uX4_passComment_83 {G : xG} {fr lo : Nat} {x0 : Nat} {x1 : Int32} {h : xH} {Q : Outcome → xH → Prop} (hq : bX4_passComment_83 G fr lo x0 x1 h Q) : xP G YX4_passComment fr lo 83 [(0, rv x0), (1, .int x1)] [] h Q := by
  unfold bX4_passComment_83 at hq
  refine x_aload_n 0 dX4_passComment_83 rfl ?_
  obtain ⟨g1, hq⟩ := hq
  refine x_get (v := .int (fI h x0 1029)) fdX4_36 dX4_passComment_84 g1 rfl ?_
  refine x_aload_n 0 dX4_passComment_87 rfl ?_
  refine x_get (v := .int (fI h x0 1028)) fdX4_32 dX4_passComment_88 g1 rfl ?_
  refine x_icmp_lt (tgt := 100) dX4_passComment_91 (by decide) (fun c2 => ?_) (fun c2 => ?_)
  · replace hq := hq.1 c2
    refine x_aload_n 0 dX4_passComment_100 rfl ?_
    refine x_dup dX4_passComment_101 (rv_cat _) ?_
    refine x_get (v := .int (fI h x0 1029)) fdX4_36 dX4_passComment_102 g1 rfl ?_
    refine x_aload_n 0 dX4_passComment_105 rfl ?_
    refine x_iconst (v := 0) dX4_passComment_106 (by decide) ?_
    obtain ⟨g3, g4, hq⟩ := hq
    refine x_callV (Yc := YX4_here) (as := [.int 0]) (st := [.int (fI h x0 1029), rv x0]) q1580 mvX4_here g1 rfl dX4_passComment_107 (xle (xal1 (rv_cat _) (xal1 rfl xal0)) (by decide)) (xfr g3) (xlo (xsw1 rfl (xsw1 (rv_cat _) xsw0)) (by decide) g4) (xKi hq (fun x6 h5 hq e7 => ?_) (fun _ _ q _ => q))
    replace hq := hq e7
    refine x_bipush (v := 125) dX4_passComment_110 (by decide) ?_
    refine x_icmp_ne (tgt := 119) dX4_passComment_112 (by decide) (fun c8 => ?_) (fun c8 => ?_)
    · replace hq := hq.1 c8
      refine x_iconst (v := 2) dX4_passComment_119 (by decide) ?_
      refine xP.pick (lv' := []) [] rfl ?_
      exact uX4_passComment_120 hq
    · replace hq := hq.2 c8
      refine x_iconst (v := 1) dX4_passComment_115 (by decide) ?_
      refine x_goto (tgt := 120) dX4_passComment_116 (by decide) ?_
      refine xP.pick (lv' := []) [] rfl ?_
      exact uX4_passComment_120 hq
  · replace hq := hq.2 c2
    refine x_aload_n 0 dX4_passComment_94 rfl ?_
    refine x_iload_n 1 dX4_passComment_95 rfl ?_
    obtain ⟨g9, g10, hq⟩ := hq
    refine x_callV (Yc := YX4_wrong) (as := [.int x1]) (st := []) q1588 mvX4_wrong g1 rfl dX4_passComment_96 (xle (xal1 (rv_cat _) (xal1 rfl xal0)) (by decide)) (xfr g9) (xlo xsw0 (by decide) g10) (xKr hq (fun x12 h11 hq e13 => ?_) (fun _ _ q _ => q))
    replace hq := hq e13
    obtain ⟨r14, g15, hq⟩ := hq
    rw [g15]
    exact x_athrow dX4_passComment_99 hq
set_option maxRecDepth 100000 in
def bX4_passComment_70 (G : xG) (fr lo : Nat) (x0 : Nat) (x1 : Int32) (h : xH) (Q : Outcome → xH → Prop) : Prop := tg h x0 = 5 ∧ (∀ h2 : xH, h2 = sI h x0 1029 ((fI h x0 1029) + 1) → lX4_passComment_29 G fr lo x0 x1 h2 Q)
set_option maxRecDepth 100000 in
theorem uX4_passComment_70 {G : xG} {fr lo : Nat} {x0 : Nat} {x1 : Int32} {h : xH} {Q : Outcome → xH → Prop} (hq : bX4_passComment_70 G fr lo x0 x1 h Q) : xP G YX4_passComment fr lo 70 [(0, rv x0), (1, .int x1)] [] h Q := by
  unfold bX4_passComment_70 at hq
  refine x_aload_n 0 dX4_passComment_70 rfl ?_
  refine x_dup dX4_passComment_71 (rv_cat _) ?_
  obtain ⟨g1, hq⟩ := hq
  refine x_get (v := .int (fI h x0 1029)) fdX4_36 dX4_passComment_72 g1 rfl ?_
  refine x_iconst (v := 1) dX4_passComment_75 (by decide) ?_
  refine x_iadd dX4_passComment_76 ?_
  obtain ⟨h2, e3⟩ : ∃ y, y = sI h x0 1029 ((fI h x0 1029) + 1) := ⟨_, rfl⟩
  replace hq := hq h2 e3
  refine x_putI fdX4_36 xty_I1 dX4_passComment_77 g1 (Or.inl (by rw [g1]; rfl)) xnI rfl e3 ?_
  refine x_goto (tgt := 29) dX4_passComment_80 (by decide) ?_
  exact hq
set_option maxRecDepth 100000 in
def bX4_passComment_29 (G : xG) (fr lo : Nat) (x0 : Nat) (x1 : Int32) (h : xH) (Q : Outcome → xH → Prop) : Prop := tg h x0 = 5 ∧ (((fI h x0 1028) ≤ (fI h x0 1029) → bX4_passComment_83 G fr lo x0 x1 h Q) ∧ (¬ (fI h x0 1028) ≤ (fI h x0 1029) → 1 ≤ fr ∧ 13 ≤ lo ∧ xRi G YX4_here (fr - 1) (lo - 13) [rv x0, .int 0] h (fun x6 h5 => xext h h5 → ((x6 = 125 → bX4_passComment_83 G fr lo x0 x1 h5 Q) ∧ (¬ x6 = 125 → 1 ≤ fr ∧ 13 ≤ lo ∧ xRi G YX4_here (fr - 1) (lo - 13) [rv x0, .int 0] h5 (fun x13 h12 => xext h5 h12 → ((¬ x13 = 42 → bX4_passComment_70 G fr lo x0 x1 h12 Q) ∧ (x13 = 42 → 1 ≤ fr ∧ 13 ≤ lo ∧ xRi G YX4_here (fr - 1) (lo - 13) [rv x0, .int 1] h12 (fun x20 h19 => xext h12 h19 → ((x20 = 41 → bX4_passComment_83 G fr lo x0 x1 h19 Q) ∧ (¬ x20 = 41 → bX4_passComment_70 G fr lo x0 x1 h19 Q))) (fun r h2 => Q (.threw r) h2)))) (fun r h2 => Q (.threw r) h2)))) (fun r h2 => Q (.threw r) h2)))
set_option maxRecDepth 100000 in
theorem uX4_passComment_29 {G : xG} {fr lo : Nat} {x0 : Nat} {x1 : Int32} {h : xH} {Q : Outcome → xH → Prop} (hq : bX4_passComment_29 G fr lo x0 x1 h Q) : xP G YX4_passComment fr lo 29 [(0, rv x0), (1, .int x1)] [] h Q := by
  unfold bX4_passComment_29 at hq
  refine x_aload_n 0 dX4_passComment_29 rfl ?_
  obtain ⟨g1, hq⟩ := hq
  refine x_get (v := .int (fI h x0 1029)) fdX4_36 dX4_passComment_30 g1 rfl ?_
  refine x_aload_n 0 dX4_passComment_33 rfl ?_
  refine x_get (v := .int (fI h x0 1028)) fdX4_32 dX4_passComment_34 g1 rfl ?_
  refine x_icmp_ge (tgt := 83) dX4_passComment_37 (by decide) (fun c2 => ?_) (fun c2 => ?_)
  · replace hq := hq.1 c2
    exact uX4_passComment_83 hq
  · replace hq := hq.2 c2
    refine x_aload_n 0 dX4_passComment_40 rfl ?_
    refine x_iconst (v := 0) dX4_passComment_41 (by decide) ?_
    obtain ⟨g3, g4, hq⟩ := hq
    refine x_callV (Yc := YX4_here) (as := [.int 0]) (st := []) q1580 mvX4_here g1 rfl dX4_passComment_42 (xle (xal1 (rv_cat _) (xal1 rfl xal0)) (by decide)) (xfr g3) (xlo xsw0 (by decide) g4) (xKi hq (fun x6 h5 hq e7 => ?_) (fun _ _ q _ => q))
    replace hq := hq e7
    refine x_bipush (v := 125) dX4_passComment_45 (by decide) ?_
    refine x_icmp_eq (tgt := 83) dX4_passComment_47 (by decide) (fun c8 => ?_) (fun c8 => ?_)
    · replace hq := hq.1 c8
      exact uX4_passComment_83 hq
    · replace hq := hq.2 c8
      refine x_aload_n 0 dX4_passComment_50 rfl ?_
      refine x_iconst (v := 0) dX4_passComment_51 (by decide) ?_
      have t9 : tg h5 x0 = 5 := e7.tg g1 (by decide)
      obtain ⟨g10, g11, hq⟩ := hq
      refine x_callV (Yc := YX4_here) (as := [.int 0]) (st := []) q1580 mvX4_here t9 rfl dX4_passComment_52 (xle (xal1 (rv_cat _) (xal1 rfl xal0)) (by decide)) (xfr g10) (xlo xsw0 (by decide) g11) (xKi hq (fun x13 h12 hq e14 => ?_) (fun _ _ q _ => q))
      replace hq := hq e14
      refine x_bipush (v := 42) dX4_passComment_55 (by decide) ?_
      refine x_icmp_ne (tgt := 70) dX4_passComment_57 (by decide) (fun c15 => ?_) (fun c15 => ?_)
      · replace hq := hq.1 c15
        exact uX4_passComment_70 hq
      · replace hq := hq.2 c15
        refine x_aload_n 0 dX4_passComment_60 rfl ?_
        refine x_iconst (v := 1) dX4_passComment_61 (by decide) ?_
        have t16 : tg h12 x0 = 5 := e14.tg t9 (by decide)
        obtain ⟨g17, g18, hq⟩ := hq
        refine x_callV (Yc := YX4_here) (as := [.int 1]) (st := []) q1580 mvX4_here t16 rfl dX4_passComment_62 (xle (xal1 (rv_cat _) (xal1 rfl xal0)) (by decide)) (xfr g17) (xlo xsw0 (by decide) g18) (xKi hq (fun x20 h19 hq e21 => ?_) (fun _ _ q _ => q))
        replace hq := hq e21
        refine x_bipush (v := 41) dX4_passComment_65 (by decide) ?_
        refine x_icmp_eq (tgt := 83) dX4_passComment_67 (by decide) (fun c22 => ?_) (fun c22 => ?_)
        · replace hq := hq.1 c22
          exact uX4_passComment_83 hq
        · replace hq := hq.2 c22
          exact uX4_passComment_70 hq
set_option maxRecDepth 100000 in
def bX4_passComment_25 (G : xG) (fr lo : Nat) (x0 : Nat) (x1 : Int32) (s0 : Int32) (s1 : Int32) (s2 : Nat) (h : xH) (Q : Outcome → xH → Prop) : Prop := tg h s2 = 5 ∧ (∀ h2 : xH, h2 = sI h s2 1029 (s1 + s0) → lX4_passComment_29 G fr lo x0 x1 h2 Q)
set_option maxRecDepth 100000 in
theorem uX4_passComment_25 {G : xG} {fr lo : Nat} {x0 : Nat} {x1 : Int32} {s0 : Int32} {s1 : Int32} {s2 : Nat} {h : xH} {Q : Outcome → xH → Prop} (hq : bX4_passComment_25 G fr lo x0 x1 s0 s1 s2 h Q) : xP G YX4_passComment fr lo 25 [(0, rv x0), (1, .int x1)] [.int s0, .int s1, rv s2] h Q := by
  unfold bX4_passComment_25 at hq
  refine x_iadd dX4_passComment_25 ?_
  obtain ⟨g1, hq⟩ := hq
  obtain ⟨h2, e3⟩ : ∃ y, y = sI h s2 1029 (s1 + s0) := ⟨_, rfl⟩
  replace hq := hq h2 e3
  refine x_putI fdX4_36 xty_I1 dX4_passComment_26 g1 (Or.inl (by rw [g1]; rfl)) xnI rfl e3 ?_
  exact hq
set_option maxRecDepth 100000 in
def bX4_passComment (G : xG) (fr lo : Nat) (x0 : Nat) (h : xH) (Q : Outcome → xH → Prop) : Prop := tg h x0 = 5 ∧ 1 ≤ fr ∧ 15 ≤ lo ∧ xRi G YX4_here (fr - 1) (lo - 15) [rv x0, .int 0] h (fun x5 h4 => xext h h4 → ((¬ x5 = 123 → bX4_passComment_25 G fr lo x0 (fI h x0 1029) 2 (fI h x0 1029) x0 h4 Q) ∧ (x5 = 123 → bX4_passComment_25 G fr lo x0 (fI h x0 1029) 1 (fI h x0 1029) x0 h4 Q))) (fun r h2 => Q (.threw r) h2)
set_option maxRecDepth 100000 in
theorem uX4_passComment {G : xG} {fr lo : Nat} {x0 : Nat} {h : xH} {Q : Outcome → xH → Prop} (hq : bX4_passComment G fr lo x0 h Q) : xP G YX4_passComment fr lo 0 [(0, rv x0)] [] h Q := by
  unfold bX4_passComment at hq
  refine x_aload_n 0 dX4_passComment_0 rfl ?_
  obtain ⟨g1, hq⟩ := hq
  refine x_get (v := .int (fI h x0 1029)) fdX4_36 dX4_passComment_1 g1 rfl ?_
  refine x_istore_n (lv' := [(1, .int (fI h x0 1029)), (0, rv x0)]) dX4_passComment_4 (by decide) (by first | rfl | (simp [rv_cat, Value.category]; done) | (simp [rv_cat, Value.category]; decide)) ?_
  refine x_aload_n 1 dX4_passComment_5 rfl ?_
  refine x_dup dX4_passComment_6 (rv_cat _) ?_
  refine x_get (v := .int (fI h x0 1029)) fdX4_36 dX4_passComment_7 g1 rfl ?_
  refine x_aload_n 1 dX4_passComment_10 rfl ?_
  refine x_iconst (v := 0) dX4_passComment_11 (by decide) ?_
  obtain ⟨g2, g3, hq⟩ := hq
  refine x_callV (Yc := YX4_here) (as := [.int 0]) (st := [.int (fI h x0 1029), rv x0]) q1580 mvX4_here g1 rfl dX4_passComment_12 (xle (xal1 (rv_cat _) (xal1 rfl xal0)) (by decide)) (xfr g2) (xlo (xsw1 rfl (xsw1 (rv_cat _) xsw0)) (by decide) g3) (xKi hq (fun x5 h4 hq e6 => ?_) (fun _ _ q _ => q))
  replace hq := hq e6
  refine x_bipush (v := 123) dX4_passComment_15 (by decide) ?_
  refine x_icmp_ne (tgt := 24) dX4_passComment_17 (by decide) (fun c7 => ?_) (fun c7 => ?_)
  · replace hq := hq.1 c7
    refine x_iconst (v := 2) dX4_passComment_24 (by decide) ?_
    refine xP.pick (lv' := [(0, rv x0), (1, .int (fI h x0 1029))]) [1, 0] rfl ?_
    exact uX4_passComment_25 hq
  · replace hq := hq.2 c7
    refine x_iconst (v := 1) dX4_passComment_20 (by decide) ?_
    refine x_goto (tgt := 25) dX4_passComment_21 (by decide) ?_
    refine xP.pick (lv' := [(0, rv x0), (1, .int (fI h x0 1029))]) [1, 0] rfl ?_
    exact uX4_passComment_25 hq
theorem rX4_passComment {G : xG} {fr lo : Nat} {x0 : Nat} {h : xH} {Q : Outcome → xH → Prop} (hq : bX4_passComment G fr lo x0 h Q) : xR G YX4_passComment fr lo [rv x0] h Q := by
  show xP _ _ _ _ _ (lv_args 0 _) _ _ _
  rw [show lv_args 0 [rv x0] = [(0, rv x0)] from (xla1 (rv_cat _) xla0)]
  exact uX4_passComment hq
set_option maxRecDepth 100000 in
theorem dX4_wrong_0 : decode cX4_wrong 0 = .ok (.aload_n 0, 1) := by decide +kernel
set_option maxRecDepth 100000 in
theorem dX4_wrong_1 : decode cX4_wrong 1 = .ok (.getfield 28, 3) := by decide +kernel
set_option maxRecDepth 100000 in
theorem dX4_wrong_4 : decode cX4_wrong 4 = .ok (.iconst 1, 1) := by decide +kernel
set_option maxRecDepth 100000 in
theorem dX4_wrong_5 : decode cX4_wrong 5 = .ok (.iload_n 1, 1) := by decide +kernel
set_option maxRecDepth 100000 in
theorem dX4_wrong_6 : decode cX4_wrong 6 = .ok (.invokevirtual 39, 3) := by decide +kernel
set_option maxRecDepth 100000 in
theorem dX4_wrong_9 : decode cX4_wrong 9 = .ok (.areturn, 1) := by decide +kernel
set_option maxRecDepth 100000 in
def bX4_wrong (G : xG) (fr lo : Nat) (x0 : Nat) (x1 : Int32) (h : xH) (Q : Outcome → xH → Prop) : Prop := tg h x0 = 5 ∧ tg h (fR h x0 1026) = 2 ∧ 1 ≤ fr ∧ 14 ≤ lo ∧ xRr G YX1_at (fr - 1) (lo - 14) [rv (fR h x0 1026), .int 1, .int x1] h (fun x6 h5 => xext h h5 → Q (.returned (some (rv x6))) h5) (fun r h2 => Q (.threw r) h2)
set_option maxRecDepth 100000 in
theorem uX4_wrong {G : xG} {fr lo : Nat} {x0 : Nat} {x1 : Int32} {h : xH} {Q : Outcome → xH → Prop} (hq : bX4_wrong G fr lo x0 x1 h Q) : xP G YX4_wrong fr lo 0 [(0, rv x0), (1, .int x1)] [] h Q := by
  unfold bX4_wrong at hq
  refine x_aload_n 0 dX4_wrong_0 rfl ?_
  obtain ⟨g1, hq⟩ := hq
  refine x_get (v := rv (fR h x0 1026)) fdX4_28 dX4_wrong_1 g1 rfl ?_
  refine x_iconst (v := 1) dX4_wrong_4 (by decide) ?_
  refine x_iload_n 1 dX4_wrong_5 rfl ?_
  obtain ⟨g2, hq⟩ := hq
  obtain ⟨g3, g4, hq⟩ := hq
  refine x_callV (Yc := YX1_at) (as := [.int 1, .int x1]) (st := []) q1592 mvX1_at g2 rfl dX4_wrong_6 (xle (xal1 (rv_cat _) (xal1 rfl (xal1 rfl xal0))) (by decide)) (xfr g3) (xlo xsw0 (by decide) g4) (xKr hq (fun x6 h5 hq e7 => ?_) (fun _ _ q _ => q))
  replace hq := hq e7
  exact x_aret rfl xty_O dX4_wrong_9 hq
theorem rX4_wrong {G : xG} {fr lo : Nat} {x0 : Nat} {x1 : Int32} {h : xH} {Q : Outcome → xH → Prop} (hq : bX4_wrong G fr lo x0 x1 h Q) : xR G YX4_wrong fr lo [rv x0, .int x1] h Q := by
  show xP _ _ _ _ _ (lv_args 0 _) _ _ _
  rw [show lv_args 0 [rv x0, .int x1] = [(0, rv x0), (1, .int x1)] from (xla1 (rv_cat _) (xla1 rfl xla0))]
  exact uX4_wrong hq
set_option maxRecDepth 100000 in
theorem dX4_word_0 : decode cX4_word 0 = .ok (.aload_n 0, 1) := by decide +kernel
set_option maxRecDepth 100000 in
theorem dX4_word_1 : decode cX4_word 1 = .ok (.getfield 36, 3) := by decide +kernel
set_option maxRecDepth 100000 in
theorem dX4_word_4 : decode cX4_word 4 = .ok (.istore_n 1, 1) := by decide +kernel
set_option maxRecDepth 100000 in
theorem dX4_word_5 : decode cX4_word 5 = .ok (.aload_n 0, 1) := by decide +kernel
set_option maxRecDepth 100000 in
theorem dX4_word_6 : decode cX4_word 6 = .ok (.getfield 14, 3) := by decide +kernel
set_option maxRecDepth 100000 in
theorem dX4_word_9 : decode cX4_word 9 = .ok (.iconst 0, 1) := by decide +kernel
set_option maxRecDepth 100000 in
theorem dX4_word_10 : decode cX4_word 10 = .ok (.invokevirtual 91, 3) := by decide +kernel
set_option maxRecDepth 100000 in
theorem dX4_word_13 : decode cX4_word 13 = .ok (.iconst 0, 1) := by decide +kernel
set_option maxRecDepth 100000 in
theorem dX4_word_14 : decode cX4_word 14 = .ok (.istore_n 2, 1) := by decide +kernel
set_option maxRecDepth 100000 in
theorem dX4_word_15 : decode cX4_word 15 = .ok (.aload_n 0, 1) := by decide +kernel
set_option maxRecDepth 100000 in
theorem dX4_word_16 : decode cX4_word 16 = .ok (.iconst 0, 1) := by decide +kernel
set_option maxRecDepth 100000 in
theorem dX4_word_17 : decode cX4_word 17 = .ok (.invokevirtual 44, 3) := by decide +kernel
set_option maxRecDepth 100000 in
theorem dX4_word_20 : decode cX4_word 20 = .ok (.invokestatic 71, 3) := by decide +kernel
set_option maxRecDepth 100000 in
theorem dX4_word_23 : decode cX4_word 23 = .ok (.ifCond .ne 14, 3) := by decide +kernel
set_option maxRecDepth 100000 in
theorem dX4_word_26 : decode cX4_word 26 = .ok (.aload_n 0, 1) := by decide +kernel
set_option maxRecDepth 100000 in
theorem dX4_word_27 : decode cX4_word 27 = .ok (.iconst 0, 1) := by decide +kernel
set_option maxRecDepth 100000 in
theorem dX4_word_28 : decode cX4_word 28 = .ok (.invokevirtual 44, 3) := by decide +kernel
set_option maxRecDepth 100000 in
theorem dX4_word_31 : decode cX4_word 31 = .ok (.invokestatic 79, 3) := by decide +kernel
set_option maxRecDepth 100000 in
theorem dX4_word_34 : decode cX4_word 34 = .ok (.ifCond .eq 42, 3) := by decide +kernel
set_option maxRecDepth 100000 in
theorem dX4_word_37 : decode cX4_word 37 = .ok (.iload_n 2, 1) := by decide +kernel
set_option maxRecDepth 100000 in
theorem dX4_word_38 : decode cX4_word 38 = .ok (.bipush 30, 2) := by decide +kernel
set_option maxRecDepth 100000 in
theorem dX4_word_40 : decode cX4_word 40 = .ok (.if_icmp .ge 20, 3) := by decide +kernel
set_option maxRecDepth 100000 in
theorem dX4_word_43 : decode cX4_word 43 = .ok (.aload_n 0, 1) := by decide +kernel
set_option maxRecDepth 100000 in
theorem dX4_word_44 : decode cX4_word 44 = .ok (.getfield 14, 3) := by decide +kernel
set_option maxRecDepth 100000 in
theorem dX4_word_47 : decode cX4_word 47 = .ok (.aload_n 0, 1) := by decide +kernel
set_option maxRecDepth 100000 in
theorem dX4_word_48 : decode cX4_word 48 = .ok (.iconst 0, 1) := by decide +kernel
set_option maxRecDepth 100000 in
theorem dX4_word_49 : decode cX4_word 49 = .ok (.invokevirtual 44, 3) := by decide +kernel
set_option maxRecDepth 100000 in
theorem dX4_word_52 : decode cX4_word 52 = .ok (.invokestatic 94, 3) := by decide +kernel
set_option maxRecDepth 100000 in
theorem dX4_word_55 : decode cX4_word 55 = .ok (.i2c, 1) := by decide +kernel
set_option maxRecDepth 100000 in
theorem dX4_word_56 : decode cX4_word 56 = .ok (.invokevirtual 97, 3) := by decide +kernel
set_option maxRecDepth 100000 in
theorem dX4_word_59 : decode cX4_word 59 = .ok (.pop, 1) := by decide +kernel
set_option maxRecDepth 100000 in
theorem dX4_word_60 : decode cX4_word 60 = .ok (.iinc 2 1, 3) := by decide +kernel
set_option maxRecDepth 100000 in
theorem dX4_word_63 : decode cX4_word 63 = .ok (.aload_n 0, 1) := by decide +kernel
set_option maxRecDepth 100000 in
theorem dX4_word_64 : decode cX4_word 64 = .ok (.dup, 1) := by decide +kernel
set_option maxRecDepth 100000 in
theorem dX4_word_65 : decode cX4_word 65 = .ok (.getfield 36, 3) := by decide +kernel
set_option maxRecDepth 100000 in
theorem dX4_word_68 : decode cX4_word 68 = .ok (.iconst 1, 1) := by decide +kernel
set_option maxRecDepth 100000 in
theorem dX4_word_69 : decode cX4_word 69 = .ok (.iadd, 1) := by decide +kernel
set_option maxRecDepth 100000 in
theorem dX4_word_70 : decode cX4_word 70 = .ok (.putfield 36, 3) := by decide +kernel
set_option maxRecDepth 100000 in
theorem dX4_word_73 : decode cX4_word 73 = .ok (.goto (-58), 3) := by decide +kernel
set_option maxRecDepth 100000 in
theorem dX4_word_76 : decode cX4_word 76 = .ok (.iload_n 2, 1) := by decide +kernel
set_option maxRecDepth 100000 in
theorem dX4_word_77 : decode cX4_word 77 = .ok (.bipush 30, 2) := by decide +kernel
set_option maxRecDepth 100000 in
theorem dX4_word_79 : decode cX4_word 79 = .ok (.if_icmp .le 9, 3) := by decide +kernel
set_option maxRecDepth 100000 in
theorem dX4_word_82 : decode cX4_word 82 = .ok (.aload_n 0, 1) := by decide +kernel
set_option maxRecDepth 100000 in
theorem dX4_word_83 : decode cX4_word 83 = .ok (.iload_n 1, 1) := by decide +kernel
set_option maxRecDepth 100000 in
theorem dX4_word_84 : decode cX4_word 84 = .ok (.invokevirtual 51, 3) := by decide +kernel
set_option maxRecDepth 100000 in
theorem dX4_word_87 : decode cX4_word 87 = .ok (.athrow, 1) := by decide +kernel
set_option maxRecDepth 100000 in
theorem dX4_word_88 : decode cX4_word 88 = .ok (.aload_n 0, 1) := by decide +kernel
set_option maxRecDepth 100000 in
theorem dX4_word_89 : decode cX4_word 89 = .ok (.getfield 14, 3) := by decide +kernel
set_option maxRecDepth 100000 in
theorem dX4_word_92 : decode cX4_word 92 = .ok (.invokevirtual 101, 3) := by decide +kernel
set_option maxRecDepth 100000 in
theorem dX4_word_95 : decode cX4_word 95 = .ok (.astore_n 3, 1) := by decide +kernel
set_option maxRecDepth 100000 in
theorem dX4_word_96 : decode cX4_word 96 = .ok (.iconst 0, 1) := by decide +kernel
set_option maxRecDepth 100000 in
theorem dX4_word_97 : decode cX4_word 97 = .ok (.istore 4, 2) := by decide +kernel
set_option maxRecDepth 100000 in
theorem dX4_word_99 : decode cX4_word 99 = .ok (.iconst 0, 1) := by decide +kernel
set_option maxRecDepth 100000 in
theorem dX4_word_100 : decode cX4_word 100 = .ok (.istore 5, 2) := by decide +kernel
set_option maxRecDepth 100000 in
theorem dX4_word_102 : decode cX4_word 102 = .ok (.iload 5, 2) := by decide +kernel
set_option maxRecDepth 100000 in
theorem dX4_word_104 : decode cX4_word 104 = .ok (.aload_n 0, 1) := by decide +kernel
set_option maxRecDepth 100000 in
theorem dX4_word_105 : decode cX4_word 105 = .ok (.getfield 24, 3) := by decide +kernel
set_option maxRecDepth 100000 in
theorem dX4_word_108 : decode cX4_word 108 = .ok (.arraylength, 1) := by decide +kernel
set_option maxRecDepth 100000 in
theorem dX4_word_109 : decode cX4_word 109 = .ok (.if_icmp .ge 27, 3) := by decide +kernel
set_option maxRecDepth 100000 in
theorem dX4_word_112 : decode cX4_word 112 = .ok (.iload 4, 2) := by decide +kernel
set_option maxRecDepth 100000 in
theorem dX4_word_114 : decode cX4_word 114 = .ok (.ifCond .ne 22, 3) := by decide +kernel
set_option maxRecDepth 100000 in
theorem dX4_word_117 : decode cX4_word 117 = .ok (.aload_n 0, 1) := by decide +kernel
set_option maxRecDepth 100000 in
theorem dX4_word_118 : decode cX4_word 118 = .ok (.getfield 24, 3) := by decide +kernel
set_option maxRecDepth 100000 in
theorem dX4_word_121 : decode cX4_word 121 = .ok (.iload 5, 2) := by decide +kernel
set_option maxRecDepth 100000 in
theorem dX4_word_123 : decode cX4_word 123 = .ok (.aaload, 1) := by decide +kernel
set_option maxRecDepth 100000 in
theorem dX4_word_124 : decode cX4_word 124 = .ok (.aload_n 3, 1) := by decide +kernel
set_option maxRecDepth 100000 in
theorem dX4_word_125 : decode cX4_word 125 = .ok (.invokevirtual 105, 3) := by decide +kernel
set_option maxRecDepth 100000 in
theorem dX4_word_128 : decode cX4_word 128 = .ok (.istore 4, 2) := by decide +kernel
set_option maxRecDepth 100000 in
theorem dX4_word_130 : decode cX4_word 130 = .ok (.iinc 5 1, 3) := by decide +kernel
set_option maxRecDepth 100000 in
theorem dX4_word_133 : decode cX4_word 133 = .ok (.goto (-31), 3) := by decide +kernel
set_option maxRecDepth 100000 in
theorem dX4_word_136 : decode cX4_word 136 = .ok (.new 58, 3) := by decide +kernel
set_option maxRecDepth 100000 in
theorem dX4_word_139 : decode cX4_word 139 = .ok (.dup, 1) := by decide +kernel
set_option maxRecDepth 100000 in
theorem dX4_word_140 : decode cX4_word 140 = .ok (.iload 4, 2) := by decide +kernel
set_option maxRecDepth 100000 in
theorem dX4_word_142 : decode cX4_word 142 = .ok (.ifCond .eq 9, 3) := by decide +kernel
set_option maxRecDepth 100000 in
theorem dX4_word_145 : decode cX4_word 145 = .ok (.getstatic 111, 3) := by decide +kernel
set_option maxRecDepth 100000 in
theorem dX4_word_148 : decode cX4_word 148 = .ok (.goto 6, 3) := by decide +kernel
set_option maxRecDepth 100000 in
theorem dX4_word_151 : decode cX4_word 151 = .ok (.getstatic 114, 3) := by decide +kernel
set_option maxRecDepth 100000 in
theorem dX4_word_154 : decode cX4_word 154 = .ok (.aload_n 3, 1) := by decide +kernel
set_option maxRecDepth 100000 in
theorem dX4_word_155 : decode cX4_word 155 = .ok (.iload_n 1, 1) := by decide +kernel
set_option maxRecDepth 100000 in
theorem dX4_word_156 : decode cX4_word 156 = .ok (.iconst 0, 1) := by decide +kernel
set_option maxRecDepth 100000 in
theorem dX4_word_157 : decode cX4_word 157 = .ok (.dconst 0, 1) := by decide +kernel
set_option maxRecDepth 100000 in
theorem dX4_word_158 : decode cX4_word 158 = .ok (.invokespecial 68, 3) := by decide +kernel
set_option maxRecDepth 100000 in
theorem dX4_word_161 : decode cX4_word 161 = .ok (.areturn, 1) := by decide +kernel
def lX4_word_15 (G : xG) (fr lo : Nat) (x0 : Nat) (x1 : Int32) (x2 : Int32) (h : xH) (Q : Outcome → xH → Prop) : Prop := xP G YX4_word fr lo 15 [(0, rv x0), (1, .int x1), (2, .int x2)] [] h Q
def lX4_word_102 (G : xG) (fr lo : Nat) (x0 : Nat) (x1 : Int32) (x3 : Nat) (x4 : Int32) (x5 : Int32) (h : xH) (Q : Outcome → xH → Prop) : Prop := xP G YX4_word fr lo 102 [(0, rv x0), (1, .int x1), (3, rv x3), (4, .int x4), (5, .int x5)] [] h Q
set_option maxRecDepth 100000 in
def bX4_word_154 (G : xG) (fr lo : Nat) (x1 : Int32) (x3 : Nat) (s0 : Nat) (s1 : Nat) (s2 : Nat) (h : xH) (Q : Outcome → xH → Prop) : Prop := tg h s1 = 15 ∧ 1 ≤ fr ∧ 19 ≤ lo ∧ xRv G YX14_init (fr - 1) (lo - 19) [rv s1, rv s0, rv x3, .int x1, .int 0, .double FP.dconst0] h (fun h4 => xext h h4 → Q (.returned (some (rv s2))) h4) (fun r h2 => Q (.threw r) h2)
set_option maxRecDepth 100000 in
theorem uX4_word_154 {G : xG} {fr lo : Nat} {x1 : Int32} {x3 : Nat} {s0 : Nat} {s1 : Nat} {s2 : Nat} {h : xH} {Q : Outcome → xH → Prop} (hq : bX4_word_154 G fr lo x1 x3 s0 s1 s2 h Q) : xP G YX4_word fr lo 154 [(1, .int x1), (3, rv x3)] [rv s0, rv s1, rv s2] h Q := by
  unfold bX4_word_154 at hq
  refine x_aload_n 1 dX4_word_154 rfl ?_
  refine x_iload_n 0 dX4_word_155 rfl ?_
  refine x_iconst (v := 0) dX4_word_156 (by decide) ?_
  refine x_dconst0 dX4_word_157 ?_
  obtain ⟨g1, hq⟩ := hq
  obtain ⟨g2, g3, hq⟩ := hq
  refine x_callI (Yc := YX14_init) (as := [rv s0, rv x3, .int x1, .int 0, .double FP.dconst0]) (st := [rv s2]) q1598 miX14_init (by rw [g1]; decide) rfl dX4_word_158 (xle (xal1 (rv_cat _) (xal1 (rv_cat _) (xal1 (rv_cat _) (xal1 rfl (xal1 rfl (xal2 rfl xal0)))))) (by decide)) (xfr g2) (xlo (xsw1 (rv_cat _) xsw0) (by decide) g3) (xKv hq (fun h4 hq e6 => ?_) (fun _ _ q _ => q))
  replace hq := hq e6
  exact x_aret rfl xty_O dX4_word_161 hq
set_option maxRecDepth 100000 in
def bX4_word_136 (G : xG) (fr lo : Nat) (x1 : Int32) (x3 : Nat) (x4 : Int32) (h : xH) (Q : Outcome → xH → Prop) : Prop := nx h + 1 ≤ xGN G ∧ us h + 5 ≤ xGU G ∧ (∀ (a3 : Nat) (h4 : xH), a3 = nx h + 1 → h4 = nO h 15 5 → xfresh h a3 → ((x4 = 0 → bX4_word_154 G fr lo x1 x3 (xGS G 1) a3 a3 h4 Q) ∧ (¬ x4 = 0 → bX4_word_154 G fr lo x1 x3 (xGS G 0) a3 a3 h4 Q)))
set_option maxRecDepth 100000 in
theorem uX4_word_136 {G : xG} {fr lo : Nat} {x1 : Int32} {x3 : Nat} {x4 : Int32} {h : xH} {Q : Outcome → xH → Prop} (hq : bX4_word_136 G fr lo x1 x3 x4 h Q) : xP G YX4_word fr lo 136 [(1, .int x1), (3, rv x3), (4, .int x4)] [] h Q := by
  unfold bX4_word_136 at hq
  obtain ⟨g1, g2, hq⟩ := hq
  obtain ⟨a3, e5⟩ : ∃ y, y = nx h + 1 := ⟨_, rfl⟩
  obtain ⟨h4, e6⟩ : ∃ y, y = nO h 15 5 := ⟨_, rfl⟩
  refine x_new' cdX4_58 dX4_word_136 g1 g2 e5 e6 (fun f7 => ?_)
  replace hq := hq a3 h4 e5 e6 f7
  have t8 : tg h4 a3 = 15 := by rw [e6, e5]; exact tg_nO
  refine x_dup dX4_word_139 (rv_cat _) ?_
  refine x_iload 2 dX4_word_140 rfl ?_
  refine x_if_eq (tgt := 151) dX4_word_142 (by decide) (fun c9 => ?_) (fun c9 => ?_)
  · replace hq := hq.1 c9
    refine x_gets (v := rv (xGS G 1)) 1 rfl q1653 (by simp [xsv]) dX4_word_151 ?_
    refine xP.pick (lv' := [(1, .int x1), (3, rv x3)]) [0, 1] rfl ?_
    exact uX4_word_154 hq
  · replace hq := hq.2 c9
    refine x_gets (v := rv (xGS G 0)) 0 rfl q1651 (by simp [xsv]) dX4_word_145 ?_
    refine x_goto (tgt := 154) dX4_word_148 (by decide) ?_
    refine xP.pick (lv' := [(1, .int x1), (3, rv x3)]) [0, 1] rfl ?_
    exact uX4_word_154 hq
set_option maxRecDepth 100000 in
def bX4_word_102 (G : xG) (fr lo : Nat) (x0 : Nat) (x1 : Int32) (x3 : Nat) (x4 : Int32) (x5 : Int32) (h : xH) (Q : Outcome → xH → Prop) : Prop := tg h x0 = 5 ∧ tg h (fR h x0 1025) = 106 ∧ (((Int32.ofNat (ln h (fR h x0 1025))) ≤ x5 → bX4_word_136 G fr lo x1 x3 x4 h Q) ∧ (¬ (Int32.ofNat (ln h (fR h x0 1025))) ≤ x5 → ((¬ x4 = 0 → bX4_word_136 G fr lo x1 x3 x4 h Q) ∧ (x4 = 0 → vp_in x5 (ln h (fR h x0 1025)) ∧ tg h (aR h (fR h x0 1025) (Int32.toNatClampNeg x5)) = 31 ∧ 1 ≤ fr ∧ 14 ≤ lo ∧ xRi G YJ5_equals (fr - 1) (lo - 14) [rv (aR h (fR h x0 1025) (Int32.toNatClampNeg x5)), rv x3] h (fun x10 h9 => xext h h9 → lX4_word_102 G fr lo x0 x1 x3 x10 (x5 + 1) h9 Q) (fun r h2 => Q (.threw r) h2)))))
set_option maxRecDepth 100000 in
theorem uX4_word_102 {G : xG} {fr lo : Nat} {x0 : Nat} {x1 : Int32} {x3 : Nat} {x4 : Int32} {x5 : Int32} {h : xH} {Q : Outcome → xH → Prop} (hq : bX4_word_102 G fr lo x0 x1 x3 x4 x5 h Q) : xP G YX4_word fr lo 102 [(0, rv x0), (1, .int x1), (3, rv x3), (4, .int x4), (5, .int x5)] [] h Q := by
  unfold bX4_word_102 at hq
  refine x_iload 4 dX4_word_102 rfl ?_
  refine x_aload_n 0 dX4_word_104 rfl ?_
  obtain ⟨g1, hq⟩ := hq
  refine x_get (v := rv (fR h x0 1025)) fdX4_24 dX4_word_105 g1 rfl ?_
  obtain ⟨g2, hq⟩ := hq
  refine x_alen 6 g2 (by decide) dX4_word_108 ?_
  refine x_icmp_ge (tgt := 136) dX4_word_109 (by decide) (fun c3 => ?_) (fun c3 => ?_)
  · replace hq := hq.1 c3
    refine xP.pick (lv' := [(1, .int x1), (3, rv x3), (4, .int x4)]) [1, 2, 3] rfl ?_
    exact uX4_word_136 hq
  · replace hq := hq.2 c3
    refine x_iload 3 dX4_word_112 rfl ?_
    refine x_if_ne (tgt := 136) dX4_word_114 (by decide) (fun c4 => ?_) (fun c4 => ?_)
    · replace hq := hq.1 c4
      refine xP.pick (lv' := [(1, .int x1), (3, rv x3), (4, .int x4)]) [1, 2, 3] rfl ?_
      exact uX4_word_136 hq
    · replace hq := hq.2 c4
      refine x_aload_n 0 dX4_word_117 rfl ?_
      refine x_get (v := rv (fR h x0 1025)) fdX4_24 dX4_word_118 g1 rfl ?_
      refine x_iload 4 dX4_word_121 rfl ?_
      obtain ⟨i5, hq⟩ := hq
      refine x_aald 6 rfl g2 (by decide) i5 dX4_word_123 ?_
      refine x_aload_n 2 dX4_word_124 rfl ?_
      obtain ⟨g6, hq⟩ := hq
      obtain ⟨g7, g8, hq⟩ := hq
      refine x_callV (Yc := YJ5_equals) (as := [rv x3]) (st := []) q1643 mvJ5_equals g6 rfl dX4_word_125 (xle (xal1 (rv_cat _) (xal1 (rv_cat _) xal0)) (by decide)) (xfr g7) (xlo xsw0 (by decide) g8) (xKi hq (fun x10 h9 hq e11 => ?_) (fun _ _ q _ => q))
      replace hq := hq e11
      refine x_istore (lv' := [(4, .int x10), (0, rv x0), (1, .int x1), (3, rv x3), (5, .int x5)]) dX4_word_128 (by decide) (by first | rfl | (simp [rv_cat, Value.category]; done) | (simp [rv_cat, Value.category]; decide)) ?_
      refine x_iinc (lv' := [(5, .int (x5 + 1)), (4, .int x10), (0, rv x0), (1, .int x1), (3, rv x3)]) 4 dX4_word_130 rfl (by decide) rfl ?_
      refine x_goto (tgt := 102) dX4_word_133 (by decide) ?_
      refine xP.pick (lv' := [(0, rv x0), (1, .int x1), (3, rv x3), (4, .int x10), (5, .int (x5 + 1))]) [2, 3, 4, 1, 0] rfl ?_
      exact hq
set_option maxRecDepth 100000 in
def bX4_word_60 (G : xG) (fr lo : Nat) (x0 : Nat) (x1 : Int32) (x2 : Int32) (h : xH) (Q : Outcome → xH → Prop) : Prop := tg h x0 = 5 ∧ (∀ h2 : xH, h2 = sI h x0 1029 ((fI h x0 1029) + 1) → lX4_word_15 G fr lo x0 x1 (x2 + 1) h2 Q)
set_option maxRecDepth 100000 in
theorem uX4_word_60 {G : xG} {fr lo : Nat} {x0 : Nat} {x1 : Int32} {x2 : Int32} {h : xH} {Q : Outcome → xH → Prop} (hq : bX4_word_60 G fr lo x0 x1 x2 h Q) : xP G YX4_word fr lo 60 [(0, rv x0), (1, .int x1), (2, .int x2)] [] h Q := by
  unfold bX4_word_60 at hq
  refine x_iinc (lv' := [(2, .int (x2 + 1)), (0, rv x0), (1, .int x1)]) 2 dX4_word_60 rfl (by decide) rfl ?_
  refine x_aload_n 1 dX4_word_63 rfl ?_
  refine x_dup dX4_word_64 (rv_cat _) ?_
  obtain ⟨g1, hq⟩ := hq
  refine x_get (v := .int (fI h x0 1029)) fdX4_36 dX4_word_65 g1 rfl ?_
  refine x_iconst (v := 1) dX4_word_68 (by decide) ?_
  refine x_iadd dX4_word_69 ?_
  obtain ⟨h2, e3⟩ : ∃ y, y = sI h x0 1029 ((fI h x0 1029) + 1) := ⟨_, rfl⟩
  replace hq := hq h2 e3
  refine x_putI fdX4_36 xty_I1 dX4_word_70 g1 (Or.inl (by rw [g1]; rfl)) xnI rfl e3 ?_
  refine x_goto (tgt := 15) dX4_word_73 (by decide) ?_
  refine xP.pick (lv' := [(0, rv x0), (1, .int x1), (2, .int (x2 + 1))]) [1, 2, 0] rfl ?_
  exact hq
set_option maxRecDepth 100000 in
def bX4_word_37 (G : xG) (fr lo : Nat) (x0 : Nat) (x1 : Int32) (x2 : Int32) (h : xH) (Q : Outcome → xH → Prop) : Prop := ((30 ≤ x2 → bX4_word_60 G fr lo x0 x1 x2 h Q) ∧ (¬ 30 ≤ x2 → tg h x0 = 5 ∧ 1 ≤ fr ∧ 14 ≤ lo ∧ xRi G YX4_here (fr - 1) (lo - 14) [rv x0, .int 0] h (fun x6 h5 => xext h h5 → 1 ≤ fr ∧ 13 ≤ lo ∧ xRi G YX0_small (fr - 1) (lo - 13) [.int x6] h5 (fun x11 h10 => xext h5 h10 → tg h10 (fR h x0 1027) = 30 ∧ 1 ≤ fr ∧ 13 ≤ lo ∧ xRr G YJ4_append (fr - 1) (lo - 13) [rv (fR h x0 1027), .int ((Int32.toUInt32 x11 % 65536).toInt32)] h10 (fun x17 h16 => xext h10 h16 → bX4_word_60 G fr lo x0 x1 x2 h16 Q) (fun r h2 => Q (.threw r) h2)) (fun r h2 => Q (.threw r) h2)) (fun r h2 => Q (.threw r) h2)))
set_option maxRecDepth 100000 in
theorem uX4_word_37 {G : xG} {fr lo : Nat} {x0 : Nat} {x1 : Int32} {x2 : Int32} {h : xH} {Q : Outcome → xH → Prop} (hq : bX4_word_37 G fr lo x0 x1 x2 h Q) : xP G YX4_word fr lo 37 [(0, rv x0), (1, .int x1), (2, .int x2)] [] h Q := by
  unfold bX4_word_37 at hq
  refine x_iload_n 2 dX4_word_37 rfl ?_
  refine x_bipush (v := 30) dX4_word_38 (by decide) ?_
  refine x_icmp_ge (tgt := 60) dX4_word_40 (by decide) (fun c1 => ?_) (fun c1 => ?_)
  · replace hq := hq.1 c1
    exact uX4_word_60 hq
  · replace hq := hq.2 c1
    refine x_aload_n 0 dX4_word_43 rfl ?_
    obtain ⟨g2, hq⟩ := hq
    refine x_get (v := rv (fR h x0 1027)) fdX4_14 dX4_word_44 g2 rfl ?_
    refine x_aload_n 0 dX4_word_47 rfl ?_
    refine x_iconst (v := 0) dX4_word_48 (by decide) ?_
    obtain ⟨g3, g4, hq⟩ := hq
    refine x_callV (Yc := YX4_here) (as := [.int 0]) (st := [rv (fR h x0 1027)]) q1580 mvX4_here g2 rfl dX4_word_49 (xle (xal1 (rv_cat _) (xal1 rfl xal0)) (by decide)) (xfr g3) (xlo (xsw1 (rv_cat _) xsw0) (by decide) g4) (xKi hq (fun x6 h5 hq e7 => ?_) (fun _ _ q _ => q))
    replace hq := hq e7
    obtain ⟨g8, g9, hq⟩ := hq
    refine x_callSN (Yc := YX0_small) (as := [.int x6]) (st := [rv (fR h x0 1027)]) (List.mem_filter.mpr ⟨q1638, rfl⟩) msX0_small rfl dX4_word_52 (xle (xal1 rfl xal0) (by decide)) (xfr g8) (xlo (xsw1 (rv_cat _) xsw0) (by decide) g9) (xKi hq (fun x11 h10 hq e12 => ?_) (fun _ _ q _ => q))
    replace hq := hq e12
    refine x_i2c dX4_word_55 ?_
    obtain ⟨g13, hq⟩ := hq
    obtain ⟨g14, g15, hq⟩ := hq
    refine x_callV (Yc := YJ4_append) (as := [.int ((Int32.toUInt32 x11 % 65536).toInt32)]) (st := []) q1641 mvJ4_append g13 rfl dX4_word_56 (xle (xal1 (rv_cat _) (xal1 rfl xal0)) (by decide)) (xfr g14) (xlo xsw0 (by decide) g15) (xKr hq (fun x17 h16 hq e18 => ?_) (fun _ _ q _ => q))
    replace hq := hq e18
    refine x_pop dX4_word_59 (rv_cat _) ?_
    exact uX4_word_60 hq
set_option maxRecDepth 100000 in
def bX4_word_15 (G : xG) (fr lo : Nat) (x0 : Nat) (x1 : Int32) (x2 : Int32) (h : xH) (Q : Outcome → xH → Prop) : Prop := tg h x0 = 5 ∧ 1 ≤ fr ∧ 13 ≤ lo ∧ xRi G YX4_here (fr - 1) (lo - 13) [rv x0, .int 0] h (fun x5 h4 => xext h h4 → 1 ≤ fr ∧ 12 ≤ lo ∧ xRi G YX0_isLetter (fr - 1) (lo - 12) [.int x5] h4 (fun x10 h9 => xext h4 h9 → ((¬ x10 = 0 → bX4_word_37 G fr lo x0 x1 x2 h9 Q) ∧ (x10 = 0 → 1 ≤ fr ∧ 13 ≤ lo ∧ xRi G YX4_here (fr - 1) (lo - 13) [rv x0, .int 0] h9 (fun x18 h17 => xext h9 h17 → 1 ≤ fr ∧ 12 ≤ lo ∧ xRi G YX0_isDigit (fr - 1) (lo - 12) [.int x18] h17 (fun x23 h22 => xext h17 h22 → ((x23 = 0 → ((x2 ≤ 30 → tg h22 (fR h22 x0 1027) = 30 ∧ 1 ≤ fr ∧ 12 ≤ lo ∧ xRr G YJ4_toString (fr - 1) (lo - 12) [rv (fR h22 x0 1027)] h22 (fun x33 h32 => xext h22 h32 → lX4_word_102 G fr lo x0 x1 x33 0 0 h32 Q) (fun r h2 => Q (.threw r) h2)) ∧ (¬ x2 ≤ 30 → 1 ≤ fr ∧ 13 ≤ lo ∧ xRr G YX4_wrong (fr - 1) (lo - 13) [rv x0, .int x1] h22 (fun x40 h39 => xext h22 h39 → (∃ r42, x40 = r42 + 1 ∧ Q (.threw r42) h39)) (fun r h2 => Q (.threw r) h2)))) ∧ (¬ x23 = 0 → bX4_word_37 G fr lo x0 x1 x2 h22 Q))) (fun r h2 => Q (.threw r) h2)) (fun r h2 => Q (.threw r) h2)))) (fun r h2 => Q (.threw r) h2)) (fun r h2 => Q (.threw r) h2)
set_option maxRecDepth 100000 in
theorem uX4_word_15 {G : xG} {fr lo : Nat} {x0 : Nat} {x1 : Int32} {x2 : Int32} {h : xH} {Q : Outcome → xH → Prop} (hq : bX4_word_15 G fr lo x0 x1 x2 h Q) : xP G YX4_word fr lo 15 [(0, rv x0), (1, .int x1), (2, .int x2)] [] h Q := by
  unfold bX4_word_15 at hq
  refine x_aload_n 0 dX4_word_15 rfl ?_
  refine x_iconst (v := 0) dX4_word_16 (by decide) ?_
  obtain ⟨g1, hq⟩ := hq
  obtain ⟨g2, g3, hq⟩ := hq
  refine x_callV (Yc := YX4_here) (as := [.int 0]) (st := []) q1580 mvX4_here g1 rfl dX4_word_17 (xle (xal1 (rv_cat _) (xal1 rfl xal0)) (by decide)) (xfr g2) (xlo xsw0 (by decide) g3) (xKi hq (fun x5 h4 hq e6 => ?_) (fun _ _ q _ => q))
  replace hq := hq e6
  obtain ⟨g7, g8, hq⟩ := hq
  refine x_callSN (Yc := YX0_isLetter) (as := [.int x5]) (st := []) (List.mem_filter.mpr ⟨q1627, rfl⟩) msX0_isLetter rfl dX4_word_20 (xle (xal1 rfl xal0) (by decide)) (xfr g7) (xlo xsw0 (by decide) g8) (xKi hq (fun x10 h9 hq e11 => ?_) (fun _ _ q _ => q))
  replace hq := hq e11
  refine x_if_ne (tgt := 37) dX4_word_23 (by decide) (fun c12 => ?_) (fun c12 => ?_)
  · replace hq := hq.1 c12
    exact uX4_word_37 hq
  · replace hq := hq.2 c12
    refine x_aload_n 0 dX4_word_26 rfl ?_
    refine x_iconst (v := 0) dX4_word_27 (by decide) ?_
    have t13 : tg h4 x0 = 5 := e6.tg g1 (by decide)
    have t14 : tg h9 x0 = 5 := e11.tg t13 (by decide)
    obtain ⟨g15, g16, hq⟩ := hq
    refine x_callV (Yc := YX4_here) (as := [.int 0]) (st := []) q1580 mvX4_here t14 rfl dX4_word_28 (xle (xal1 (rv_cat _) (xal1 rfl xal0)) (by decide)) (xfr g15) (xlo xsw0 (by decide) g16) (xKi hq (fun x18 h17 hq e19 => ?_) (fun _ _ q _ => q))
    replace hq := hq e19
    obtain ⟨g20, g21, hq⟩ := hq
    refine x_callSN (Yc := YX0_isDigit) (as := [.int x18]) (st := []) (List.mem_filter.mpr ⟨q1635, rfl⟩) msX0_isDigit rfl dX4_word_31 (xle (xal1 rfl xal0) (by decide)) (xfr g20) (xlo xsw0 (by decide) g21) (xKi hq (fun x23 h22 hq e24 => ?_) (fun _ _ q _ => q))
    replace hq := hq e24
    refine x_if_eq (tgt := 76) dX4_word_34 (by decide) (fun c25 => ?_) (fun c25 => ?_)
    · replace hq := hq.1 c25
      refine x_iload_n 2 dX4_word_76 rfl ?_
      refine x_bipush (v := 30) dX4_word_77 (by decide) ?_
      refine x_icmp_le (tgt := 88) dX4_word_79 (by decide) (fun c26 => ?_) (fun c26 => ?_)
      · replace hq := hq.1 c26
        refine x_aload_n 0 dX4_word_88 rfl ?_
        have t27 : tg h17 x0 = 5 := e19.tg t14 (by decide)
        have t28 : tg h22 x0 = 5 := e24.tg t27 (by decide)
        refine x_get (v := rv (fR h22 x0 1027)) fdX4_14 dX4_word_89 t28 rfl ?_
        obtain ⟨g29, hq⟩ := hq
        obtain ⟨g30, g31, hq⟩ := hq
        refine x_callV (Yc := YJ4_toString) (as := []) (st := []) q1642 mvJ4_toString g29 rfl dX4_word_92 (xle (xal1 (rv_cat _) xal0) (by decide)) (xfr g30) (xlo xsw0 (by decide) g31) (xKr hq (fun x33 h32 hq e34 => ?_) (fun _ _ q _ => q))
        replace hq := hq e34
        refine x_astore_n (lv' := [(3, rv x33), (0, rv x0), (1, .int x1), (2, .int x2)]) dX4_word_95 (by decide) rfl ?_
        refine x_iconst (v := 0) dX4_word_96 (by decide) ?_
        refine x_istore (lv' := [(4, .int 0), (3, rv x33), (0, rv x0), (1, .int x1), (2, .int x2)]) dX4_word_97 (by decide) (by first | rfl | (simp [rv_cat, Value.category]; done) | (simp [rv_cat, Value.category]; decide)) ?_
        refine x_iconst (v := 0) dX4_word_99 (by decide) ?_
        refine x_istore (lv' := [(5, .int 0), (4, .int 0), (3, rv x33), (0, rv x0), (1, .int x1), (2, .int x2)]) dX4_word_100 (by decide) rfl ?_
        refine xP.pick (lv' := [(0, rv x0), (1, .int x1), (3, rv x33), (4, .int 0), (5, .int 0)]) [3, 4, 2, 1, 0] rfl ?_
        exact hq
      · replace hq := hq.2 c26
        refine x_aload_n 0 dX4_word_82 rfl ?_
        refine x_iload_n 1 dX4_word_83 rfl ?_
        have t35 : tg h17 x0 = 5 := e19.tg t14 (by decide)
        have t36 : tg h22 x0 = 5 := e24.tg t35 (by decide)
        obtain ⟨g37, g38, hq⟩ := hq
        refine x_callV (Yc := YX4_wrong) (as := [.int x1]) (st := []) q1588 mvX4_wrong t36 rfl dX4_word_84 (xle (xal1 (rv_cat _) (xal1 rfl xal0)) (by decide)) (xfr g37) (xlo xsw0 (by decide) g38) (xKr hq (fun x40 h39 hq e41 => ?_) (fun _ _ q _ => q))
        replace hq := hq e41
        obtain ⟨r42, g43, hq⟩ := hq
        rw [g43]
        exact x_athrow dX4_word_87 hq
    · replace hq := hq.2 c25
      exact uX4_word_37 hq
set_option maxRecDepth 100000 in
def bX4_word (G : xG) (fr lo : Nat) (x0 : Nat) (h : xH) (Q : Outcome → xH → Prop) : Prop := tg h x0 = 5 ∧ tg h (fR h x0 1027) = 30 ∧ 1 ≤ fr ∧ 13 ≤ lo ∧ xRv G YJ4_setLength (fr - 1) (lo - 13) [rv (fR h x0 1027), .int 0] h (fun h5 => xext h h5 → lX4_word_15 G fr lo x0 (fI h x0 1029) 0 h5 Q) (fun r h2 => Q (.threw r) h2)
set_option maxRecDepth 100000 in
theorem uX4_word {G : xG} {fr lo : Nat} {x0 : Nat} {h : xH} {Q : Outcome → xH → Prop} (hq : bX4_word G fr lo x0 h Q) : xP G YX4_word fr lo 0 [(0, rv x0)] [] h Q := by
  unfold bX4_word at hq
  refine x_aload_n 0 dX4_word_0 rfl ?_
  obtain ⟨g1, hq⟩ := hq
  refine x_get (v := .int (fI h x0 1029)) fdX4_36 dX4_word_1 g1 rfl ?_
  refine x_istore_n (lv' := [(1, .int (fI h x0 1029)), (0, rv x0)]) dX4_word_4 (by decide) (by first | rfl | (simp [rv_cat, Value.category]; done) | (simp [rv_cat, Value.category]; decide)) ?_
  refine x_aload_n 1 dX4_word_5 rfl ?_
  refine x_get (v := rv (fR h x0 1027)) fdX4_14 dX4_word_6 g1 rfl ?_
  refine x_iconst (v := 0) dX4_word_9 (by decide) ?_
  obtain ⟨g2, hq⟩ := hq
  obtain ⟨g3, g4, hq⟩ := hq
  refine x_callV (Yc := YJ4_setLength) (as := [.int 0]) (st := []) q1634 mvJ4_setLength g2 rfl dX4_word_10 (xle (xal1 (rv_cat _) (xal1 rfl xal0)) (by decide)) (xfr g3) (xlo xsw0 (by decide) g4) (xKv hq (fun h5 hq e7 => ?_) (fun _ _ q _ => q))
  replace hq := hq e7
  refine x_iconst (v := 0) dX4_word_13 (by decide) ?_
  refine x_istore_n (lv' := [(2, .int 0), (1, .int (fI h x0 1029)), (0, rv x0)]) dX4_word_14 (by decide) rfl ?_
  refine xP.pick (lv' := [(0, rv x0), (1, .int (fI h x0 1029)), (2, .int 0)]) [2, 1, 0] rfl ?_
  exact hq
theorem rX4_word {G : xG} {fr lo : Nat} {x0 : Nat} {h : xH} {Q : Outcome → xH → Prop} (hq : bX4_word G fr lo x0 h Q) : xR G YX4_word fr lo [rv x0] h Q := by
  show xP _ _ _ _ _ (lv_args 0 _) _ _ _
  rw [show lv_args 0 [rv x0] = [(0, rv x0)] from (xla1 (rv_cat _) xla0)]
  exact uX4_word hq
set_option maxRecDepth 100000 in
theorem dX4_number_0 : decode cX4_number 0 = .ok (.aload_n 0, 1) := by decide +kernel
set_option maxRecDepth 100000 in
theorem dX4_number_1 : decode cX4_number 1 = .ok (.getfield 36, 3) := by decide +kernel
set_option maxRecDepth 100000 in
theorem dX4_number_4 : decode cX4_number 4 = .ok (.istore_n 1, 1) := by decide +kernel
set_option maxRecDepth 100000 in
theorem dX4_number_5 : decode cX4_number 5 = .ok (.lconst 0, 1) := by decide +kernel
set_option maxRecDepth 100000 in
theorem dX4_number_6 : decode cX4_number 6 = .ok (.lstore_n 2, 1) := by decide +kernel
set_option maxRecDepth 100000 in
theorem dX4_number_7 : decode cX4_number 7 = .ok (.iconst 0, 1) := by decide +kernel
set_option maxRecDepth 100000 in
theorem dX4_number_8 : decode cX4_number 8 = .ok (.istore 4, 2) := by decide +kernel
set_option maxRecDepth 100000 in
theorem dX4_number_10 : decode cX4_number 10 = .ok (.iconst 0, 1) := by decide +kernel
set_option maxRecDepth 100000 in
theorem dX4_number_11 : decode cX4_number 11 = .ok (.istore 5, 2) := by decide +kernel
set_option maxRecDepth 100000 in
theorem dX4_number_13 : decode cX4_number 13 = .ok (.aload_n 0, 1) := by decide +kernel
set_option maxRecDepth 100000 in
theorem dX4_number_14 : decode cX4_number 14 = .ok (.iconst 0, 1) := by decide +kernel
set_option maxRecDepth 100000 in
theorem dX4_number_15 : decode cX4_number 15 = .ok (.invokevirtual 44, 3) := by decide +kernel
set_option maxRecDepth 100000 in
theorem dX4_number_18 : decode cX4_number 18 = .ok (.invokestatic 79, 3) := by decide +kernel
set_option maxRecDepth 100000 in
theorem dX4_number_21 : decode cX4_number 21 = .ok (.ifCond .eq 43, 3) := by decide +kernel
set_option maxRecDepth 100000 in
theorem dX4_number_24 : decode cX4_number 24 = .ok (.iload 4, 2) := by decide +kernel
set_option maxRecDepth 100000 in
theorem dX4_number_26 : decode cX4_number 26 = .ok (.bipush 15, 2) := by decide +kernel
set_option maxRecDepth 100000 in
theorem dX4_number_28 : decode cX4_number 28 = .ok (.if_icmp .ge 20, 3) := by decide +kernel
set_option maxRecDepth 100000 in
theorem dX4_number_31 : decode cX4_number 31 = .ok (.ldc2_w 117, 3) := by decide +kernel
set_option maxRecDepth 100000 in
theorem dX4_number_34 : decode cX4_number 34 = .ok (.lload_n 2, 1) := by decide +kernel
set_option maxRecDepth 100000 in
theorem dX4_number_35 : decode cX4_number 35 = .ok (.lmul, 1) := by decide +kernel
set_option maxRecDepth 100000 in
theorem dX4_number_36 : decode cX4_number 36 = .ok (.aload_n 0, 1) := by decide +kernel
set_option maxRecDepth 100000 in
theorem dX4_number_37 : decode cX4_number 37 = .ok (.iconst 0, 1) := by decide +kernel
set_option maxRecDepth 100000 in
theorem dX4_number_38 : decode cX4_number 38 = .ok (.invokevirtual 44, 3) := by decide +kernel
set_option maxRecDepth 100000 in
theorem dX4_number_41 : decode cX4_number 41 = .ok (.i2l, 1) := by decide +kernel
set_option maxRecDepth 100000 in
theorem dX4_number_42 : decode cX4_number 42 = .ok (.ladd, 1) := by decide +kernel
set_option maxRecDepth 100000 in
theorem dX4_number_43 : decode cX4_number 43 = .ok (.ldc2_w 119, 3) := by decide +kernel
set_option maxRecDepth 100000 in
theorem dX4_number_46 : decode cX4_number 46 = .ok (.lsub, 1) := by decide +kernel
set_option maxRecDepth 100000 in
theorem dX4_number_47 : decode cX4_number 47 = .ok (.lstore_n 2, 1) := by decide +kernel
set_option maxRecDepth 100000 in
theorem dX4_number_48 : decode cX4_number 48 = .ok (.iinc 4 1, 3) := by decide +kernel
set_option maxRecDepth 100000 in
theorem dX4_number_51 : decode cX4_number 51 = .ok (.aload_n 0, 1) := by decide +kernel
set_option maxRecDepth 100000 in
theorem dX4_number_52 : decode cX4_number 52 = .ok (.dup, 1) := by decide +kernel
set_option maxRecDepth 100000 in
theorem dX4_number_53 : decode cX4_number 53 = .ok (.getfield 36, 3) := by decide +kernel
set_option maxRecDepth 100000 in
theorem dX4_number_56 : decode cX4_number 56 = .ok (.iconst 1, 1) := by decide +kernel
set_option maxRecDepth 100000 in
theorem dX4_number_57 : decode cX4_number 57 = .ok (.iadd, 1) := by decide +kernel
set_option maxRecDepth 100000 in
theorem dX4_number_58 : decode cX4_number 58 = .ok (.putfield 36, 3) := by decide +kernel
set_option maxRecDepth 100000 in
theorem dX4_number_61 : decode cX4_number 61 = .ok (.goto (-48), 3) := by decide +kernel
set_option maxRecDepth 100000 in
theorem dX4_number_64 : decode cX4_number 64 = .ok (.aload_n 0, 1) := by decide +kernel
set_option maxRecDepth 100000 in
theorem dX4_number_65 : decode cX4_number 65 = .ok (.iconst 0, 1) := by decide +kernel
set_option maxRecDepth 100000 in
theorem dX4_number_66 : decode cX4_number 66 = .ok (.invokevirtual 44, 3) := by decide +kernel
set_option maxRecDepth 100000 in
theorem dX4_number_69 : decode cX4_number 69 = .ok (.bipush 46, 2) := by decide +kernel
set_option maxRecDepth 100000 in
theorem dX4_number_71 : decode cX4_number 71 = .ok (.if_icmp .ne 18, 3) := by decide +kernel
set_option maxRecDepth 100000 in
theorem dX4_number_74 : decode cX4_number 74 = .ok (.aload_n 0, 1) := by decide +kernel
set_option maxRecDepth 100000 in
theorem dX4_number_75 : decode cX4_number 75 = .ok (.iconst 1, 1) := by decide +kernel
set_option maxRecDepth 100000 in
theorem dX4_number_76 : decode cX4_number 76 = .ok (.invokevirtual 44, 3) := by decide +kernel
set_option maxRecDepth 100000 in
theorem dX4_number_79 : decode cX4_number 79 = .ok (.invokestatic 79, 3) := by decide +kernel
set_option maxRecDepth 100000 in
theorem dX4_number_82 : decode cX4_number 82 = .ok (.ifCond .eq 7, 3) := by decide +kernel
set_option maxRecDepth 100000 in
theorem dX4_number_85 : decode cX4_number 85 = .ok (.iconst 1, 1) := by decide +kernel
set_option maxRecDepth 100000 in
theorem dX4_number_86 : decode cX4_number 86 = .ok (.goto 4, 3) := by decide +kernel
set_option maxRecDepth 100000 in
theorem dX4_number_89 : decode cX4_number 89 = .ok (.iconst 0, 1) := by decide +kernel
set_option maxRecDepth 100000 in
theorem dX4_number_90 : decode cX4_number 90 = .ok (.istore 6, 2) := by decide +kernel
set_option maxRecDepth 100000 in
theorem dX4_number_92 : decode cX4_number 92 = .ok (.iload 6, 2) := by decide +kernel
set_option maxRecDepth 100000 in
theorem dX4_number_94 : decode cX4_number 94 = .ok (.ifCond .eq 67, 3) := by decide +kernel
set_option maxRecDepth 100000 in
theorem dX4_number_97 : decode cX4_number 97 = .ok (.aload_n 0, 1) := by decide +kernel
set_option maxRecDepth 100000 in
theorem dX4_number_98 : decode cX4_number 98 = .ok (.dup, 1) := by decide +kernel
set_option maxRecDepth 100000 in
theorem dX4_number_99 : decode cX4_number 99 = .ok (.getfield 36, 3) := by decide +kernel
set_option maxRecDepth 100000 in
theorem dX4_number_102 : decode cX4_number 102 = .ok (.iconst 1, 1) := by decide +kernel
set_option maxRecDepth 100000 in
theorem dX4_number_103 : decode cX4_number 103 = .ok (.iadd, 1) := by decide +kernel
set_option maxRecDepth 100000 in
theorem dX4_number_104 : decode cX4_number 104 = .ok (.putfield 36, 3) := by decide +kernel
set_option maxRecDepth 100000 in
theorem dX4_number_107 : decode cX4_number 107 = .ok (.aload_n 0, 1) := by decide +kernel
set_option maxRecDepth 100000 in
theorem dX4_number_108 : decode cX4_number 108 = .ok (.iconst 0, 1) := by decide +kernel
set_option maxRecDepth 100000 in
theorem dX4_number_109 : decode cX4_number 109 = .ok (.invokevirtual 44, 3) := by decide +kernel
set_option maxRecDepth 100000 in
theorem dX4_number_112 : decode cX4_number 112 = .ok (.invokestatic 79, 3) := by decide +kernel
set_option maxRecDepth 100000 in
theorem dX4_number_115 : decode cX4_number 115 = .ok (.ifCond .eq 46, 3) := by decide +kernel
set_option maxRecDepth 100000 in
theorem dX4_number_118 : decode cX4_number 118 = .ok (.iload 4, 2) := by decide +kernel
set_option maxRecDepth 100000 in
theorem dX4_number_120 : decode cX4_number 120 = .ok (.bipush 15, 2) := by decide +kernel
set_option maxRecDepth 100000 in
theorem dX4_number_122 : decode cX4_number 122 = .ok (.if_icmp .ge 20, 3) := by decide +kernel
set_option maxRecDepth 100000 in
theorem dX4_number_125 : decode cX4_number 125 = .ok (.ldc2_w 117, 3) := by decide +kernel
set_option maxRecDepth 100000 in
theorem dX4_number_128 : decode cX4_number 128 = .ok (.lload_n 2, 1) := by decide +kernel
set_option maxRecDepth 100000 in
theorem dX4_number_129 : decode cX4_number 129 = .ok (.lmul, 1) := by decide +kernel
set_option maxRecDepth 100000 in
theorem dX4_number_130 : decode cX4_number 130 = .ok (.aload_n 0, 1) := by decide +kernel
set_option maxRecDepth 100000 in
theorem dX4_number_131 : decode cX4_number 131 = .ok (.iconst 0, 1) := by decide +kernel
set_option maxRecDepth 100000 in
theorem dX4_number_132 : decode cX4_number 132 = .ok (.invokevirtual 44, 3) := by decide +kernel
set_option maxRecDepth 100000 in
theorem dX4_number_135 : decode cX4_number 135 = .ok (.i2l, 1) := by decide +kernel
set_option maxRecDepth 100000 in
theorem dX4_number_136 : decode cX4_number 136 = .ok (.ladd, 1) := by decide +kernel
set_option maxRecDepth 100000 in
theorem dX4_number_137 : decode cX4_number 137 = .ok (.ldc2_w 119, 3) := by decide +kernel
set_option maxRecDepth 100000 in
theorem dX4_number_140 : decode cX4_number 140 = .ok (.lsub, 1) := by decide +kernel
set_option maxRecDepth 100000 in
theorem dX4_number_141 : decode cX4_number 141 = .ok (.lstore_n 2, 1) := by decide +kernel
set_option maxRecDepth 100000 in
theorem dX4_number_142 : decode cX4_number 142 = .ok (.iinc 4 1, 3) := by decide +kernel
set_option maxRecDepth 100000 in
theorem dX4_number_145 : decode cX4_number 145 = .ok (.iinc 5 1, 3) := by decide +kernel
set_option maxRecDepth 100000 in
theorem dX4_number_148 : decode cX4_number 148 = .ok (.aload_n 0, 1) := by decide +kernel
set_option maxRecDepth 100000 in
theorem dX4_number_149 : decode cX4_number 149 = .ok (.dup, 1) := by decide +kernel
set_option maxRecDepth 100000 in
theorem dX4_number_150 : decode cX4_number 150 = .ok (.getfield 36, 3) := by decide +kernel
set_option maxRecDepth 100000 in
theorem dX4_number_153 : decode cX4_number 153 = .ok (.iconst 1, 1) := by decide +kernel
set_option maxRecDepth 100000 in
theorem dX4_number_154 : decode cX4_number 154 = .ok (.iadd, 1) := by decide +kernel
set_option maxRecDepth 100000 in
theorem dX4_number_155 : decode cX4_number 155 = .ok (.putfield 36, 3) := by decide +kernel
set_option maxRecDepth 100000 in
theorem dX4_number_158 : decode cX4_number 158 = .ok (.goto (-51), 3) := by decide +kernel
set_option maxRecDepth 100000 in
theorem dX4_number_161 : decode cX4_number 161 = .ok (.aload_n 0, 1) := by decide +kernel
set_option maxRecDepth 100000 in
theorem dX4_number_162 : decode cX4_number 162 = .ok (.iconst 1, 1) := by decide +kernel
set_option maxRecDepth 100000 in
theorem dX4_number_163 : decode cX4_number 163 = .ok (.invokevirtual 44, 3) := by decide +kernel
set_option maxRecDepth 100000 in
theorem dX4_number_166 : decode cX4_number 166 = .ok (.bipush 43, 2) := by decide +kernel
set_option maxRecDepth 100000 in
theorem dX4_number_168 : decode cX4_number 168 = .ok (.if_icmp .eq 13, 3) := by decide +kernel
set_option maxRecDepth 100000 in
theorem dX4_number_171 : decode cX4_number 171 = .ok (.aload_n 0, 1) := by decide +kernel
set_option maxRecDepth 100000 in
theorem dX4_number_172 : decode cX4_number 172 = .ok (.iconst 1, 1) := by decide +kernel
set_option maxRecDepth 100000 in
theorem dX4_number_173 : decode cX4_number 173 = .ok (.invokevirtual 44, 3) := by decide +kernel
set_option maxRecDepth 100000 in
theorem dX4_number_176 : decode cX4_number 176 = .ok (.bipush 45, 2) := by decide +kernel
set_option maxRecDepth 100000 in
theorem dX4_number_178 : decode cX4_number 178 = .ok (.if_icmp .ne 7, 3) := by decide +kernel
set_option maxRecDepth 100000 in
theorem dX4_number_181 : decode cX4_number 181 = .ok (.iconst 2, 1) := by decide +kernel
set_option maxRecDepth 100000 in
theorem dX4_number_182 : decode cX4_number 182 = .ok (.goto 4, 3) := by decide +kernel
set_option maxRecDepth 100000 in
theorem dX4_number_185 : decode cX4_number 185 = .ok (.iconst 1, 1) := by decide +kernel
set_option maxRecDepth 100000 in
theorem dX4_number_186 : decode cX4_number 186 = .ok (.istore 7, 2) := by decide +kernel
set_option maxRecDepth 100000 in
theorem dX4_number_188 : decode cX4_number 188 = .ok (.aload_n 0, 1) := by decide +kernel
set_option maxRecDepth 100000 in
theorem dX4_number_189 : decode cX4_number 189 = .ok (.iconst 0, 1) := by decide +kernel
set_option maxRecDepth 100000 in
theorem dX4_number_190 : decode cX4_number 190 = .ok (.invokevirtual 44, 3) := by decide +kernel
set_option maxRecDepth 100000 in
theorem dX4_number_193 : decode cX4_number 193 = .ok (.invokestatic 94, 3) := by decide +kernel
set_option maxRecDepth 100000 in
theorem dX4_number_196 : decode cX4_number 196 = .ok (.bipush 101, 2) := by decide +kernel
set_option maxRecDepth 100000 in
theorem dX4_number_198 : decode cX4_number 198 = .ok (.if_icmp .ne 19, 3) := by decide +kernel
set_option maxRecDepth 100000 in
theorem dX4_number_201 : decode cX4_number 201 = .ok (.aload_n 0, 1) := by decide +kernel
set_option maxRecDepth 100000 in
theorem dX4_number_202 : decode cX4_number 202 = .ok (.iload 7, 2) := by decide +kernel
set_option maxRecDepth 100000 in
theorem dX4_number_204 : decode cX4_number 204 = .ok (.invokevirtual 44, 3) := by decide +kernel
set_option maxRecDepth 100000 in
theorem dX4_number_207 : decode cX4_number 207 = .ok (.invokestatic 79, 3) := by decide +kernel
set_option maxRecDepth 100000 in
theorem dX4_number_210 : decode cX4_number 210 = .ok (.ifCond .eq 7, 3) := by decide +kernel
set_option maxRecDepth 100000 in
theorem dX4_number_213 : decode cX4_number 213 = .ok (.iconst 1, 1) := by decide +kernel
set_option maxRecDepth 100000 in
theorem dX4_number_214 : decode cX4_number 214 = .ok (.goto 4, 3) := by decide +kernel
set_option maxRecDepth 100000 in
theorem dX4_number_217 : decode cX4_number 217 = .ok (.iconst 0, 1) := by decide +kernel
set_option maxRecDepth 100000 in
theorem dX4_number_218 : decode cX4_number 218 = .ok (.istore 8, 2) := by decide +kernel
set_option maxRecDepth 100000 in
theorem dX4_number_220 : decode cX4_number 220 = .ok (.iload 6, 2) := by decide +kernel
set_option maxRecDepth 100000 in
theorem dX4_number_222 : decode cX4_number 222 = .ok (.ifCond .ne 108, 3) := by decide +kernel
set_option maxRecDepth 100000 in
theorem dX4_number_225 : decode cX4_number 225 = .ok (.iload 8, 2) := by decide +kernel
set_option maxRecDepth 100000 in
theorem dX4_number_227 : decode cX4_number 227 = .ok (.ifCond .ne 103, 3) := by decide +kernel
set_option maxRecDepth 100000 in
theorem dX4_number_230 : decode cX4_number 230 = .ok (.iconst 0, 1) := by decide +kernel
set_option maxRecDepth 100000 in
theorem dX4_number_231 : decode cX4_number 231 = .ok (.istore 9, 2) := by decide +kernel
set_option maxRecDepth 100000 in
theorem dX4_number_233 : decode cX4_number 233 = .ok (.lconst 0, 1) := by decide +kernel
set_option maxRecDepth 100000 in
theorem dX4_number_234 : decode cX4_number 234 = .ok (.lstore 10, 2) := by decide +kernel
set_option maxRecDepth 100000 in
theorem dX4_number_236 : decode cX4_number 236 = .ok (.iload_n 1, 1) := by decide +kernel
set_option maxRecDepth 100000 in
theorem dX4_number_237 : decode cX4_number 237 = .ok (.istore 12, 2) := by decide +kernel
set_option maxRecDepth 100000 in
theorem dX4_number_239 : decode cX4_number 239 = .ok (.iload 12, 2) := by decide +kernel
set_option maxRecDepth 100000 in
theorem dX4_number_241 : decode cX4_number 241 = .ok (.aload_n 0, 1) := by decide +kernel
set_option maxRecDepth 100000 in
theorem dX4_number_242 : decode cX4_number 242 = .ok (.getfield 36, 3) := by decide +kernel
set_option maxRecDepth 100000 in
theorem dX4_number_245 : decode cX4_number 245 = .ok (.if_icmp .ge 56, 3) := by decide +kernel
set_option maxRecDepth 100000 in
theorem dX4_number_248 : decode cX4_number 248 = .ok (.iload 9, 2) := by decide +kernel
set_option maxRecDepth 100000 in
theorem dX4_number_250 : decode cX4_number 250 = .ok (.ifCond .eq 8, 3) := by decide +kernel
set_option maxRecDepth 100000 in
theorem dX4_number_253 : decode cX4_number 253 = .ok (.lload 10, 2) := by decide +kernel
set_option maxRecDepth 100000 in
theorem dX4_number_255 : decode cX4_number 255 = .ok (.goto 22, 3) := by decide +kernel
set_option maxRecDepth 100000 in
theorem dX4_number_258 : decode cX4_number 258 = .ok (.ldc2_w 117, 3) := by decide +kernel
set_option maxRecDepth 100000 in
theorem dX4_number_261 : decode cX4_number 261 = .ok (.lload 10, 2) := by decide +kernel
set_option maxRecDepth 100000 in
theorem dX4_number_263 : decode cX4_number 263 = .ok (.lmul, 1) := by decide +kernel
set_option maxRecDepth 100000 in
theorem dX4_number_264 : decode cX4_number 264 = .ok (.aload_n 0, 1) := by decide +kernel
set_option maxRecDepth 100000 in
theorem dX4_number_265 : decode cX4_number 265 = .ok (.getfield 20, 3) := by decide +kernel
set_option maxRecDepth 100000 in
theorem dX4_number_268 : decode cX4_number 268 = .ok (.iload 12, 2) := by decide +kernel
set_option maxRecDepth 100000 in
theorem dX4_number_270 : decode cX4_number 270 = .ok (.baload, 1) := by decide +kernel
set_option maxRecDepth 100000 in
theorem dX4_number_271 : decode cX4_number 271 = .ok (.i2l, 1) := by decide +kernel
set_option maxRecDepth 100000 in
theorem dX4_number_272 : decode cX4_number 272 = .ok (.ladd, 1) := by decide +kernel
set_option maxRecDepth 100000 in
theorem dX4_number_273 : decode cX4_number 273 = .ok (.ldc2_w 119, 3) := by decide +kernel
set_option maxRecDepth 100000 in
theorem dX4_number_276 : decode cX4_number 276 = .ok (.lsub, 1) := by decide +kernel
set_option maxRecDepth 100000 in
theorem dX4_number_277 : decode cX4_number 277 = .ok (.lstore 10, 2) := by decide +kernel
set_option maxRecDepth 100000 in
theorem dX4_number_279 : decode cX4_number 279 = .ok (.lload 10, 2) := by decide +kernel
set_option maxRecDepth 100000 in
theorem dX4_number_281 : decode cX4_number 281 = .ok (.ldc2_w 121, 3) := by decide +kernel
set_option maxRecDepth 100000 in
theorem dX4_number_284 : decode cX4_number 284 = .ok (.lcmp, 1) := by decide +kernel
set_option maxRecDepth 100000 in
theorem dX4_number_285 : decode cX4_number 285 = .ok (.ifCond .le 7, 3) := by decide +kernel
set_option maxRecDepth 100000 in
theorem dX4_number_288 : decode cX4_number 288 = .ok (.iconst 1, 1) := by decide +kernel
set_option maxRecDepth 100000 in
theorem dX4_number_289 : decode cX4_number 289 = .ok (.goto 4, 3) := by decide +kernel
set_option maxRecDepth 100000 in
theorem dX4_number_292 : decode cX4_number 292 = .ok (.iconst 0, 1) := by decide +kernel
set_option maxRecDepth 100000 in
theorem dX4_number_293 : decode cX4_number 293 = .ok (.istore 9, 2) := by decide +kernel
set_option maxRecDepth 100000 in
theorem dX4_number_295 : decode cX4_number 295 = .ok (.iinc 12 1, 3) := by decide +kernel
set_option maxRecDepth 100000 in
theorem dX4_number_298 : decode cX4_number 298 = .ok (.goto (-59), 3) := by decide +kernel
set_option maxRecDepth 100000 in
theorem dX4_number_301 : decode cX4_number 301 = .ok (.iload 9, 2) := by decide +kernel
set_option maxRecDepth 100000 in
theorem dX4_number_303 : decode cX4_number 303 = .ok (.ifCond .eq 9, 3) := by decide +kernel
set_option maxRecDepth 100000 in
theorem dX4_number_306 : decode cX4_number 306 = .ok (.aload_n 0, 1) := by decide +kernel
set_option maxRecDepth 100000 in
theorem dX4_number_307 : decode cX4_number 307 = .ok (.iload_n 1, 1) := by decide +kernel
set_option maxRecDepth 100000 in
theorem dX4_number_308 : decode cX4_number 308 = .ok (.invokevirtual 51, 3) := by decide +kernel
set_option maxRecDepth 100000 in
theorem dX4_number_311 : decode cX4_number 311 = .ok (.athrow, 1) := by decide +kernel
set_option maxRecDepth 100000 in
theorem dX4_number_312 : decode cX4_number 312 = .ok (.new 58, 3) := by decide +kernel
set_option maxRecDepth 100000 in
theorem dX4_number_315 : decode cX4_number 315 = .ok (.dup, 1) := by decide +kernel
set_option maxRecDepth 100000 in
theorem dX4_number_316 : decode cX4_number 316 = .ok (.getstatic 123, 3) := by decide +kernel
set_option maxRecDepth 100000 in
theorem dX4_number_319 : decode cX4_number 319 = .ok (.ldc 66, 2) := by decide +kernel
set_option maxRecDepth 100000 in
theorem dX4_number_321 : decode cX4_number 321 = .ok (.iload_n 1, 1) := by decide +kernel
set_option maxRecDepth 100000 in
theorem dX4_number_322 : decode cX4_number 322 = .ok (.lload 10, 2) := by decide +kernel
set_option maxRecDepth 100000 in
theorem dX4_number_324 : decode cX4_number 324 = .ok (.l2i, 1) := by decide +kernel
set_option maxRecDepth 100000 in
theorem dX4_number_325 : decode cX4_number 325 = .ok (.dconst 0, 1) := by decide +kernel
set_option maxRecDepth 100000 in
theorem dX4_number_326 : decode cX4_number 326 = .ok (.invokespecial 68, 3) := by decide +kernel
set_option maxRecDepth 100000 in
theorem dX4_number_329 : decode cX4_number 329 = .ok (.areturn, 1) := by decide +kernel
set_option maxRecDepth 100000 in
theorem dX4_number_330 : decode cX4_number 330 = .ok (.iload 8, 2) := by decide +kernel
set_option maxRecDepth 100000 in
theorem dX4_number_332 : decode cX4_number 332 = .ok (.ifCond .eq 12, 3) := by decide +kernel
set_option maxRecDepth 100000 in
theorem dX4_number_335 : decode cX4_number 335 = .ok (.aload_n 0, 1) := by decide +kernel
set_option maxRecDepth 100000 in
theorem dX4_number_336 : decode cX4_number 336 = .ok (.iload 7, 2) := by decide +kernel
set_option maxRecDepth 100000 in
theorem dX4_number_338 : decode cX4_number 338 = .ok (.invokevirtual 126, 3) := by decide +kernel
set_option maxRecDepth 100000 in
theorem dX4_number_341 : decode cX4_number 341 = .ok (.goto 4, 3) := by decide +kernel
set_option maxRecDepth 100000 in
theorem dX4_number_344 : decode cX4_number 344 = .ok (.iconst 0, 1) := by decide +kernel
set_option maxRecDepth 100000 in
theorem dX4_number_345 : decode cX4_number 345 = .ok (.istore 9, 2) := by decide +kernel
set_option maxRecDepth 100000 in
theorem dX4_number_347 : decode cX4_number 347 = .ok (.iload 4, 2) := by decide +kernel
set_option maxRecDepth 100000 in
theorem dX4_number_349 : decode cX4_number 349 = .ok (.bipush 15, 2) := by decide +kernel
set_option maxRecDepth 100000 in
theorem dX4_number_351 : decode cX4_number 351 = .ok (.if_icmp .gt 17, 3) := by decide +kernel
set_option maxRecDepth 100000 in
theorem dX4_number_354 : decode cX4_number 354 = .ok (.iload 9, 2) := by decide +kernel
set_option maxRecDepth 100000 in
theorem dX4_number_356 : decode cX4_number 356 = .ok (.bipush 99, 2) := by decide +kernel
set_option maxRecDepth 100000 in
theorem dX4_number_358 : decode cX4_number 358 = .ok (.if_icmp .gt 10, 3) := by decide +kernel
set_option maxRecDepth 100000 in
theorem dX4_number_361 : decode cX4_number 361 = .ok (.iload 9, 2) := by decide +kernel
set_option maxRecDepth 100000 in
theorem dX4_number_363 : decode cX4_number 363 = .ok (.bipush (-99), 2) := by decide +kernel
set_option maxRecDepth 100000 in
theorem dX4_number_365 : decode cX4_number 365 = .ok (.if_icmp .ge 7, 3) := by decide +kernel
set_option maxRecDepth 100000 in
theorem dX4_number_368 : decode cX4_number 368 = .ok (.dconst 0, 1) := by decide +kernel
set_option maxRecDepth 100000 in
theorem dX4_number_369 : decode cX4_number 369 = .ok (.goto 11, 3) := by decide +kernel
set_option maxRecDepth 100000 in
theorem dX4_number_372 : decode cX4_number 372 = .ok (.lload_n 2, 1) := by decide +kernel
set_option maxRecDepth 100000 in
theorem dX4_number_373 : decode cX4_number 373 = .ok (.iload 5, 2) := by decide +kernel
set_option maxRecDepth 100000 in
theorem dX4_number_375 : decode cX4_number 375 = .ok (.iload 9, 2) := by decide +kernel
set_option maxRecDepth 100000 in
theorem dX4_number_377 : decode cX4_number 377 = .ok (.invokestatic 129, 3) := by decide +kernel
set_option maxRecDepth 100000 in
theorem dX4_number_380 : decode cX4_number 380 = .ok (.dstore 10, 2) := by decide +kernel
set_option maxRecDepth 100000 in
theorem dX4_number_382 : decode cX4_number 382 = .ok (.iload 4, 2) := by decide +kernel
set_option maxRecDepth 100000 in
theorem dX4_number_384 : decode cX4_number 384 = .ok (.bipush 15, 2) := by decide +kernel
set_option maxRecDepth 100000 in
theorem dX4_number_386 : decode cX4_number 386 = .ok (.if_icmp .gt 25, 3) := by decide +kernel
set_option maxRecDepth 100000 in
theorem dX4_number_389 : decode cX4_number 389 = .ok (.iload 9, 2) := by decide +kernel
set_option maxRecDepth 100000 in
theorem dX4_number_391 : decode cX4_number 391 = .ok (.bipush 99, 2) := by decide +kernel
set_option maxRecDepth 100000 in
theorem dX4_number_393 : decode cX4_number 393 = .ok (.if_icmp .gt 18, 3) := by decide +kernel
set_option maxRecDepth 100000 in
theorem dX4_number_396 : decode cX4_number 396 = .ok (.iload 9, 2) := by decide +kernel
set_option maxRecDepth 100000 in
theorem dX4_number_398 : decode cX4_number 398 = .ok (.bipush (-99), 2) := by decide +kernel
set_option maxRecDepth 100000 in
theorem dX4_number_400 : decode cX4_number 400 = .ok (.if_icmp .lt 11, 3) := by decide +kernel
set_option maxRecDepth 100000 in
theorem dX4_number_403 : decode cX4_number 403 = .ok (.dload 10, 2) := by decide +kernel
set_option maxRecDepth 100000 in
theorem dX4_number_405 : decode cX4_number 405 = .ok (.invokestatic 133, 3) := by decide +kernel
set_option maxRecDepth 100000 in
theorem dX4_number_408 : decode cX4_number 408 = .ok (.ifCond .ne 9, 3) := by decide +kernel
set_option maxRecDepth 100000 in
theorem dX4_number_411 : decode cX4_number 411 = .ok (.aload_n 0, 1) := by decide +kernel
set_option maxRecDepth 100000 in
theorem dX4_number_412 : decode cX4_number 412 = .ok (.iload_n 1, 1) := by decide +kernel
set_option maxRecDepth 100000 in
theorem dX4_number_413 : decode cX4_number 413 = .ok (.invokevirtual 51, 3) := by decide +kernel
set_option maxRecDepth 100000 in
theorem dX4_number_416 : decode cX4_number 416 = .ok (.athrow, 1) := by decide +kernel
set_option maxRecDepth 100000 in
theorem dX4_number_417 : decode cX4_number 417 = .ok (.new 58, 3) := by decide +kernel
set_option maxRecDepth 100000 in
theorem dX4_number_420 : decode cX4_number 420 = .ok (.dup, 1) := by decide +kernel
set_option maxRecDepth 100000 in
theorem dX4_number_421 : decode cX4_number 421 = .ok (.getstatic 137, 3) := by decide +kernel
set_option maxRecDepth 100000 in
theorem dX4_number_424 : decode cX4_number 424 = .ok (.ldc 66, 2) := by decide +kernel
set_option maxRecDepth 100000 in
theorem dX4_number_426 : decode cX4_number 426 = .ok (.iload_n 1, 1) := by decide +kernel
set_option maxRecDepth 100000 in
theorem dX4_number_427 : decode cX4_number 427 = .ok (.iconst 0, 1) := by decide +kernel
set_option maxRecDepth 100000 in
theorem dX4_number_428 : decode cX4_number 428 = .ok (.dload 10, 2) := by decide +kernel
set_option maxRecDepth 100000 in
theorem dX4_number_430 : decode cX4_number 430 = .ok (.invokespecial 68, 3) := by decide +kernel
set_option maxRecDepth 100000 in
theorem dX4_number_433 : decode cX4_number 433 = .ok (.areturn, 1) := by decide +kernel
def lX4_number_13 (G : xG) (fr lo : Nat) (x0 : Nat) (x1 : Int32) (x2 : Int64) (x4 : Int32) (x5 : Int32) (h : xH) (Q : Outcome → xH → Prop) : Prop := xP G YX4_number fr lo 13 [(0, rv x0), (1, .int x1), (2, .long x2), (4, .int x4), (5, .int x5)] [] h Q
def lX4_number_107 (G : xG) (fr lo : Nat) (x0 : Nat) (x1 : Int32) (x2 : Int64) (x4 : Int32) (x5 : Int32) (x6 : Int32) (h : xH) (Q : Outcome → xH → Prop) : Prop := xP G YX4_number fr lo 107 [(0, rv x0), (1, .int x1), (2, .long x2), (4, .int x4), (5, .int x5), (6, .int x6)] [] h Q
def lX4_number_239 (G : xG) (fr lo : Nat) (x0 : Nat) (x1 : Int32) (x9 : Int32) (x10 : Int64) (x12 : Int32) (h : xH) (Q : Outcome → xH → Prop) : Prop := xP G YX4_number fr lo 239 [(0, rv x0), (1, .int x1), (9, .int x9), (10, .long x10), (12, .int x12)] [] h Q
set_option maxRecDepth 100000 in
def bX4_number_411 (G : xG) (fr lo : Nat) (x0 : Nat) (x1 : Int32) (h : xH) (Q : Outcome → xH → Prop) : Prop := tg h x0 = 5 ∧ 1 ≤ fr ∧ 13 ≤ lo ∧ xRr G YX4_wrong (fr - 1) (lo - 13) [rv x0, .int x1] h (fun x5 h4 => xext h h4 → (∃ r7, x5 = r7 + 1 ∧ Q (.threw r7) h4)) (fun r h2 => Q (.threw r) h2)
set_option maxRecDepth 100000 in
theorem uX4_number_411 {G : xG} {fr lo : Nat} {x0 : Nat} {x1 : Int32} {h : xH} {Q : Outcome → xH → Prop} (hq : bX4_number_411 G fr lo x0 x1 h Q) : xP G YX4_number fr lo 411 [(0, rv x0), (1, .int x1)] [] h Q := by
  unfold bX4_number_411 at hq
  refine x_aload_n 0 dX4_number_411 rfl ?_
  refine x_iload_n 1 dX4_number_412 rfl ?_
  obtain ⟨g1, hq⟩ := hq
  obtain ⟨g2, g3, hq⟩ := hq
  refine x_callV (Yc := YX4_wrong) (as := [.int x1]) (st := []) q1588 mvX4_wrong g1 rfl dX4_number_413 (xle (xal1 (rv_cat _) (xal1 rfl xal0)) (by decide)) (xfr g2) (xlo xsw0 (by decide) g3) (xKr hq (fun x5 h4 hq e6 => ?_) (fun _ _ q _ => q))
  replace hq := hq e6
  obtain ⟨r7, g8, hq⟩ := hq
  rw [g8]
  exact x_athrow dX4_number_416 hq
set_option maxRecDepth 100000 in
def bX4_number_380 (G : xG) (fr lo : Nat) (x0 : Nat) (x1 : Int32) (x4 : Int32) (x9 : Int32) (s0 : UInt64) (h : xH) (Q : Outcome → xH → Prop) : Prop := ((15 < x4 → bX4_number_411 G fr lo x0 x1 h Q) ∧ (¬ 15 < x4 → ((99 < x9 → bX4_number_411 G fr lo x0 x1 h Q) ∧ (¬ 99 < x9 → ((x9 < (-99) → bX4_number_411 G fr lo x0 x1 h Q) ∧ (¬ x9 < (-99) → 1 ≤ fr ∧ 13 ≤ lo ∧ xRi G YX0_isFinite (fr - 1) (lo - 13) [.double s0] h (fun x7 h6 => xext h h6 → ((¬ x7 = 0 → nx h6 + 1 ≤ xGN G ∧ us h6 + 5 ≤ xGU G ∧ (∀ (a12 : Nat) (h13 : xH), a12 = nx h6 + 1 → h13 = nO h6 15 5 → xfresh h6 a12 → 1 ≤ fr ∧ 19 ≤ lo ∧ xRv G YX14_init (fr - 1) (lo - 19) [rv a12, rv (xGS G 3), rv (tx G 45), .int x1, .int 0, .double s0] h13 (fun h20 => xext h13 h20 → Q (.returned (some (rv a12))) h20) (fun r h2 => Q (.threw r) h2))) ∧ (x7 = 0 → bX4_number_411 G fr lo x0 x1 h6 Q))) (fun r h2 => Q (.threw r) h2)))))))
set_option maxRecDepth 100000 in
theorem uX4_number_380 {G : xG} {fr lo : Nat} {x0 : Nat} {x1 : Int32} {x4 : Int32} {x9 : Int32} {s0 : UInt64} {h : xH} {Q : Outcome → xH → Prop} (hq : bX4_number_380 G fr lo x0 x1 x4 x9 s0 h Q) : xP G YX4_number fr lo 380 [(0, rv x0), (1, .int x1), (4, .int x4), (9, .int x9)] [.double s0] h Q := by
  unfold bX4_number_380 at hq
  refine x_dstore (lv' := [(10, .double s0), (0, rv x0), (1, .int x1), (4, .int x4), (9, .int x9)]) dX4_number_380 (by decide) rfl ?_
  refine x_iload 3 dX4_number_382 rfl ?_
  refine x_bipush (v := 15) dX4_number_384 (by decide) ?_
  refine x_icmp_gt (tgt := 411) dX4_number_386 (by decide) (fun c1 => ?_) (fun c1 => ?_)
  · replace hq := hq.1 c1
    refine xP.pick (lv' := [(0, rv x0), (1, .int x1)]) [1, 2] rfl ?_
    exact uX4_number_411 hq
  · replace hq := hq.2 c1
    refine x_iload 4 dX4_number_389 rfl ?_
    refine x_bipush (v := 99) dX4_number_391 (by decide) ?_
    refine x_icmp_gt (tgt := 411) dX4_number_393 (by decide) (fun c2 => ?_) (fun c2 => ?_)
    · replace hq := hq.1 c2
      refine xP.pick (lv' := [(0, rv x0), (1, .int x1)]) [1, 2] rfl ?_
      exact uX4_number_411 hq
    · replace hq := hq.2 c2
      refine x_iload 4 dX4_number_396 rfl ?_
      refine x_bipush (v := (-99)) dX4_number_398 (by decide) ?_
      refine x_icmp_lt (tgt := 411) dX4_number_400 (by decide) (fun c3 => ?_) (fun c3 => ?_)
      · replace hq := hq.1 c3
        refine xP.pick (lv' := [(0, rv x0), (1, .int x1)]) [1, 2] rfl ?_
        exact uX4_number_411 hq
      · replace hq := hq.2 c3
        refine x_dload 0 dX4_number_403 rfl ?_
        obtain ⟨g4, g5, hq⟩ := hq
        refine x_callSN (Yc := YX0_isFinite) (as := [.double s0]) (st := []) (List.mem_filter.mpr ⟨q1675, rfl⟩) msX0_isFinite rfl dX4_number_405 (xle (xal2 rfl xal0) (by decide)) (xfr g4) (xlo xsw0 (by decide) g5) (xKi hq (fun x7 h6 hq e8 => ?_) (fun _ _ q _ => q))
        replace hq := hq e8
        refine x_if_ne (tgt := 417) dX4_number_408 (by decide) (fun c9 => ?_) (fun c9 => ?_)
        · replace hq := hq.1 c9
          obtain ⟨g10, g11, hq⟩ := hq
          obtain ⟨a12, e14⟩ : ∃ y, y = nx h6 + 1 := ⟨_, rfl⟩
          obtain ⟨h13, e15⟩ : ∃ y, y = nO h6 15 5 := ⟨_, rfl⟩
          refine x_new' cdX4_58 dX4_number_417 g10 g11 e14 e15 (fun f16 => ?_)
          replace hq := hq a12 h13 e14 e15 f16
          have t17 : tg h13 a12 = 15 := by rw [e15, e14]; exact tg_nO
          refine x_dup dX4_number_420 (rv_cat _) ?_
          refine x_gets (v := rv (xGS G 3)) 3 rfl q1680 (by simp [xsv]) dX4_number_421 ?_
          refine x_ldcS (n := 45) 45 srX4_66 dX4_number_424 ?_
          refine x_iload_n 2 dX4_number_426 rfl ?_
          refine x_iconst (v := 0) dX4_number_427 (by decide) ?_
          refine x_dload 0 dX4_number_428 rfl ?_
          obtain ⟨g18, g19, hq⟩ := hq
          refine x_callI (Yc := YX14_init) (as := [rv (xGS G 3), rv (tx G 45), .int x1, .int 0, .double s0]) (st := [rv a12]) q1598 miX14_init (by rw [t17]; decide) rfl dX4_number_430 (xle (xal1 (rv_cat _) (xal1 (rv_cat _) (xal1 (rv_cat _) (xal1 rfl (xal1 rfl (xal2 rfl xal0)))))) (by decide)) (xfr g18) (xlo (xsw1 (rv_cat _) xsw0) (by decide) g19) (xKv hq (fun h20 hq e22 => ?_) (fun _ _ q _ => q))
          replace hq := hq e22
          exact x_aret rfl xty_O dX4_number_433 hq
        · replace hq := hq.2 c9
          refine xP.pick (lv' := [(0, rv x0), (1, .int x1)]) [1, 2] rfl ?_
          exact uX4_number_411 hq
set_option maxRecDepth 100000 in
def bX4_number_368 (G : xG) (fr lo : Nat) (x0 : Nat) (x1 : Int32) (x4 : Int32) (x9 : Int32) (h : xH) (Q : Outcome → xH → Prop) : Prop := bX4_number_380 G fr lo x0 x1 x4 x9 FP.dconst0 h Q
set_option maxRecDepth 100000 in
theorem uX4_number_368 {G : xG} {fr lo : Nat} {x0 : Nat} {x1 : Int32} {x4 : Int32} {x9 : Int32} {h : xH} {Q : Outcome → xH → Prop} (hq : bX4_number_368 G fr lo x0 x1 x4 x9 h Q) : xP G YX4_number fr lo 368 [(0, rv x0), (1, .int x1), (4, .int x4), (9, .int x9)] [] h Q := by
  unfold bX4_number_368 at hq
  refine x_dconst0 dX4_number_368 ?_
  refine x_goto (tgt := 380) dX4_number_369 (by decide) ?_
  exact uX4_number_380 hq
set_option maxRecDepth 100000 in
def bX4_number_345 (G : xG) (fr lo : Nat) (x0 : Nat) (x1 : Int32) (x2 : Int64) (x4 : Int32) (x5 : Int32) (s0 : Int32) (h : xH) (Q : Outcome → xH → Prop) : Prop := ((15 < x4 → bX4_number_368 G fr lo x0 x1 x4 s0 h Q) ∧ (¬ 15 < x4 → ((99 < s0 → bX4_number_368 G fr lo x0 x1 x4 s0 h Q) ∧ (¬ 99 < s0 → (((-99) ≤ s0 → 1 ≤ fr ∧ 17 ≤ lo ∧ xRd G YX0_realOf (fr - 1) (lo - 17) [.long x2, .int x5, .int s0] h (fun x7 h6 => xext h h6 → bX4_number_380 G fr lo x0 x1 x4 s0 x7 h6 Q) (fun r h2 => Q (.threw r) h2)) ∧ (¬ (-99) ≤ s0 → bX4_number_368 G fr lo x0 x1 x4 s0 h Q))))))
set_option maxRecDepth 100000 in
theorem uX4_number_345 {G : xG} {fr lo : Nat} {x0 : Nat} {x1 : Int32} {x2 : Int64} {x4 : Int32} {x5 : Int32} {s0 : Int32} {h : xH} {Q : Outcome → xH → Prop} (hq : bX4_number_345 G fr lo x0 x1 x2 x4 x5 s0 h Q) : xP G YX4_number fr lo 345 [(0, rv x0), (1, .int x1), (2, .long x2), (4, .int x4), (5, .int x5)] [.int s0] h Q := by
  unfold bX4_number_345 at hq
  refine x_istore (lv' := [(9, .int s0), (0, rv x0), (1, .int x1), (2, .long x2), (4, .int x4), (5, .int x5)]) dX4_number_345 (by decide) rfl ?_
  refine x_iload 4 dX4_number_347 rfl ?_
  refine x_bipush (v := 15) dX4_number_349 (by decide) ?_
  refine x_icmp_gt (tgt := 368) dX4_number_351 (by decide) (fun c1 => ?_) (fun c1 => ?_)
  · replace hq := hq.1 c1
    refine xP.pick (lv' := [(0, rv x0), (1, .int x1), (4, .int x4), (9, .int s0)]) [1, 2, 4, 0] rfl ?_
    exact uX4_number_368 hq
  · replace hq := hq.2 c1
    refine x_iload 0 dX4_number_354 rfl ?_
    refine x_bipush (v := 99) dX4_number_356 (by decide) ?_
    refine x_icmp_gt (tgt := 368) dX4_number_358 (by decide) (fun c2 => ?_) (fun c2 => ?_)
    · replace hq := hq.1 c2
      refine xP.pick (lv' := [(0, rv x0), (1, .int x1), (4, .int x4), (9, .int s0)]) [1, 2, 4, 0] rfl ?_
      exact uX4_number_368 hq
    · replace hq := hq.2 c2
      refine x_iload 0 dX4_number_361 rfl ?_
      refine x_bipush (v := (-99)) dX4_number_363 (by decide) ?_
      refine x_icmp_ge (tgt := 372) dX4_number_365 (by decide) (fun c3 => ?_) (fun c3 => ?_)
      · replace hq := hq.1 c3
        refine x_lload_n 3 dX4_number_372 rfl ?_
        refine x_iload 5 dX4_number_373 rfl ?_
        refine x_iload 0 dX4_number_375 rfl ?_
        obtain ⟨g4, g5, hq⟩ := hq
        refine x_callSN (Yc := YX0_realOf) (as := [.long x2, .int x5, .int s0]) (st := []) (List.mem_filter.mpr ⟨q1668, rfl⟩) msX0_realOf rfl dX4_number_377 (xle (xal2 rfl (xal1 rfl (xal1 rfl xal0))) (by decide)) (xfr g4) (xlo xsw0 (by decide) g5) (xKd hq (fun x7 h6 hq e8 => ?_) (fun _ _ q _ => q))
        replace hq := hq e8
        refine xP.pick (lv' := [(0, rv x0), (1, .int x1), (4, .int x4), (9, .int s0)]) [1, 2, 4, 0] rfl ?_
        exact uX4_number_380 hq
      · replace hq := hq.2 c3
        refine xP.pick (lv' := [(0, rv x0), (1, .int x1), (4, .int x4), (9, .int s0)]) [1, 2, 4, 0] rfl ?_
        exact uX4_number_368 hq
set_option maxRecDepth 100000 in
def bX4_number_330 (G : xG) (fr lo : Nat) (x0 : Nat) (x1 : Int32) (x2 : Int64) (x4 : Int32) (x5 : Int32) (x7 : Int32) (x8 : Int32) (h : xH) (Q : Outcome → xH → Prop) : Prop := ((x8 = 0 → bX4_number_345 G fr lo x0 x1 x2 x4 x5 0 h Q) ∧ (¬ x8 = 0 → tg h x0 = 5 ∧ 1 ≤ fr ∧ 17 ≤ lo ∧ xRi G YX4_exponent (fr - 1) (lo - 17) [rv x0, .int x7] h (fun x6 h5 => xext h h5 → bX4_number_345 G fr lo x0 x1 x2 x4 x5 x6 h5 Q) (fun r h2 => Q (.threw r) h2)))
set_option maxRecDepth 100000 in
theorem uX4_number_330 {G : xG} {fr lo : Nat} {x0 : Nat} {x1 : Int32} {x2 : Int64} {x4 : Int32} {x5 : Int32} {x7 : Int32} {x8 : Int32} {h : xH} {Q : Outcome → xH → Prop} (hq : bX4_number_330 G fr lo x0 x1 x2 x4 x5 x7 x8 h Q) : xP G YX4_number fr lo 330 [(0, rv x0), (1, .int x1), (2, .long x2), (4, .int x4), (5, .int x5), (7, .int x7), (8, .int x8)] [] h Q := by
  unfold bX4_number_330 at hq
  refine x_iload 6 dX4_number_330 rfl ?_
  refine x_if_eq (tgt := 344) dX4_number_332 (by decide) (fun c1 => ?_) (fun c1 => ?_)
  · replace hq := hq.1 c1
    refine x_iconst (v := 0) dX4_number_344 (by decide) ?_
    refine xP.pick (lv' := [(0, rv x0), (1, .int x1), (2, .long x2), (4, .int x4), (5, .int x5)]) [0, 1, 2, 3, 4] rfl ?_
    exact uX4_number_345 hq
  · replace hq := hq.2 c1
    refine x_aload_n 0 dX4_number_335 rfl ?_
    refine x_iload 5 dX4_number_336 rfl ?_
    obtain ⟨g2, hq⟩ := hq
    obtain ⟨g3, g4, hq⟩ := hq
    refine x_callV (Yc := YX4_exponent) (as := [.int x7]) (st := []) q1664 mvX4_exponent g2 rfl dX4_number_338 (xle (xal1 (rv_cat _) (xal1 rfl xal0)) (by decide)) (xfr g3) (xlo xsw0 (by decide) g4) (xKi hq (fun x6 h5 hq e7 => ?_) (fun _ _ q _ => q))
    replace hq := hq e7
    refine x_goto (tgt := 345) dX4_number_341 (by decide) ?_
    refine xP.pick (lv' := [(0, rv x0), (1, .int x1), (2, .long x2), (4, .int x4), (5, .int x5)]) [0, 1, 2, 3, 4] rfl ?_
    exact uX4_number_345 hq
set_option maxRecDepth 100000 in
def bX4_number_293 (G : xG) (fr lo : Nat) (x0 : Nat) (x1 : Int32) (x10 : Int64) (x12 : Int32) (s0 : Int32) (h : xH) (Q : Outcome → xH → Prop) : Prop := lX4_number_239 G fr lo x0 x1 s0 x10 (x12 + 1) h Q
set_option maxRecDepth 100000 in
theorem uX4_number_293 {G : xG} {fr lo : Nat} {x0 : Nat} {x1 : Int32} {x10 : Int64} {x12 : Int32} {s0 : Int32} {h : xH} {Q : Outcome → xH → Prop} (hq : bX4_number_293 G fr lo x0 x1 x10 x12 s0 h Q) : xP G YX4_number fr lo 293 [(0, rv x0), (1, .int x1), (10, .long x10), (12, .int x12)] [.int s0] h Q := by
  unfold bX4_number_293 at hq
  refine x_istore (lv' := [(9, .int s0), (0, rv x0), (1, .int x1), (10, .long x10), (12, .int x12)]) dX4_number_293 (by decide) rfl ?_
  refine x_iinc (lv' := [(12, .int (x12 + 1)), (9, .int s0), (0, rv x0), (1, .int x1), (10, .long x10)]) 4 dX4_number_295 rfl (by decide) rfl ?_
  refine x_goto (tgt := 239) dX4_number_298 (by decide) ?_
  refine xP.pick (lv' := [(0, rv x0), (1, .int x1), (9, .int s0), (10, .long x10), (12, .int (x12 + 1))]) [2, 3, 1, 4, 0] rfl ?_
  exact hq
set_option maxRecDepth 100000 in
def bX4_number_277 (G : xG) (fr lo : Nat) (x0 : Nat) (x1 : Int32) (x12 : Int32) (s0 : Int64) (h : xH) (Q : Outcome → xH → Prop) : Prop := (((lg_cmp s0 2147483647) ≤ 0 → bX4_number_293 G fr lo x0 x1 s0 x12 0 h Q) ∧ (¬ (lg_cmp s0 2147483647) ≤ 0 → bX4_number_293 G fr lo x0 x1 s0 x12 1 h Q))
set_option maxRecDepth 100000 in
theorem uX4_number_277 {G : xG} {fr lo : Nat} {x0 : Nat} {x1 : Int32} {x12 : Int32} {s0 : Int64} {h : xH} {Q : Outcome → xH → Prop} (hq : bX4_number_277 G fr lo x0 x1 x12 s0 h Q) : xP G YX4_number fr lo 277 [(0, rv x0), (1, .int x1), (12, .int x12)] [.long s0] h Q := by
  unfold bX4_number_277 at hq
  refine x_lstore (lv' := [(10, .long s0), (0, rv x0), (1, .int x1), (12, .int x12)]) dX4_number_277 (by decide) rfl ?_
  refine x_lload 0 dX4_number_279 rfl ?_
  refine x_ldc2 (v := 2147483647) q1661 dX4_number_281 ?_
  refine x_lcmp dX4_number_284 ?_
  refine x_if_le (tgt := 292) dX4_number_285 (by decide) (fun c1 => ?_) (fun c1 => ?_)
  · replace hq := hq.1 c1
    refine x_iconst (v := 0) dX4_number_292 (by decide) ?_
    refine xP.pick (lv' := [(0, rv x0), (1, .int x1), (10, .long s0), (12, .int x12)]) [1, 2, 0, 3] rfl ?_
    exact uX4_number_293 hq
  · replace hq := hq.2 c1
    refine x_iconst (v := 1) dX4_number_288 (by decide) ?_
    refine x_goto (tgt := 293) dX4_number_289 (by decide) ?_
    refine xP.pick (lv' := [(0, rv x0), (1, .int x1), (10, .long s0), (12, .int x12)]) [1, 2, 0, 3] rfl ?_
    exact uX4_number_293 hq
set_option maxRecDepth 100000 in
def bX4_number_239 (G : xG) (fr lo : Nat) (x0 : Nat) (x1 : Int32) (x9 : Int32) (x10 : Int64) (x12 : Int32) (h : xH) (Q : Outcome → xH → Prop) : Prop := tg h x0 = 5 ∧ (((fI h x0 1029) ≤ x12 → ((x9 = 0 → nx h + 1 ≤ xGN G ∧ us h + 5 ≤ xGU G ∧ (∀ (a6 : Nat) (h7 : xH), a6 = nx h + 1 → h7 = nO h 15 5 → xfresh h a6 → 1 ≤ fr ∧ 19 ≤ lo ∧ xRv G YX14_init (fr - 1) (lo - 19) [rv a6, rv (xGS G 2), rv (tx G 45), .int x1, .int (Int64.toInt32 x10), .double FP.dconst0] h7 (fun h14 => xext h7 h14 → Q (.returned (some (rv a6))) h14) (fun r h2 => Q (.threw r) h2))) ∧ (¬ x9 = 0 → 1 ≤ fr ∧ 13 ≤ lo ∧ xRr G YX4_wrong (fr - 1) (lo - 13) [rv x0, .int x1] h (fun x20 h19 => xext h h19 → (∃ r22, x20 = r22 + 1 ∧ Q (.threw r22) h19)) (fun r h2 => Q (.threw r) h2)))) ∧ (¬ (fI h x0 1029) ≤ x12 → ((x9 = 0 → tg h (fR h x0 1024) = 103 ∧ vp_in x12 (ln h (fR h x0 1024)) ∧ bX4_number_277 G fr lo x0 x1 x12 (((10 * x10) + (Int32.toInt64 (aI h (fR h x0 1024) (Int32.toNatClampNeg x12)))) - 48) h Q) ∧ (¬ x9 = 0 → bX4_number_277 G fr lo x0 x1 x12 x10 h Q))))
set_option maxRecDepth 100000 in
theorem uX4_number_239 {G : xG} {fr lo : Nat} {x0 : Nat} {x1 : Int32} {x9 : Int32} {x10 : Int64} {x12 : Int32} {h : xH} {Q : Outcome → xH → Prop} (hq : bX4_number_239 G fr lo x0 x1 x9 x10 x12 h Q) : xP G YX4_number fr lo 239 [(0, rv x0), (1, .int x1), (9, .int x9), (10, .long x10), (12, .int x12)] [] h Q := by
  unfold bX4_number_239 at hq
  refine x_iload 4 dX4_number_239 rfl ?_
  refine x_aload_n 0 dX4_number_241 rfl ?_
  obtain ⟨g1, hq⟩ := hq
  refine x_get (v := .int (fI h x0 1029)) fdX4_36 dX4_number_242 g1 rfl ?_
  refine x_icmp_ge (tgt := 301) dX4_number_245 (by decide) (fun c2 => ?_) (fun c2 => ?_)
  · replace hq := hq.1 c2
    refine x_iload 2 dX4_number_301 rfl ?_
    refine x_if_eq (tgt := 312) dX4_number_303 (by decide) (fun c3 => ?_) (fun c3 => ?_)
    · replace hq := hq.1 c3
      obtain ⟨g4, g5, hq⟩ := hq
      obtain ⟨a6, e8⟩ : ∃ y, y = nx h + 1 := ⟨_, rfl⟩
      obtain ⟨h7, e9⟩ : ∃ y, y = nO h 15 5 := ⟨_, rfl⟩
      refine x_new' cdX4_58 dX4_number_312 g4 g5 e8 e9 (fun f10 => ?_)
      replace hq := hq a6 h7 e8 e9 f10
      have t11 : tg h7 a6 = 15 := by rw [e9, e8]; exact tg_nO
      refine x_dup dX4_number_315 (rv_cat _) ?_
      refine x_gets (v := rv (xGS G 2)) 2 rfl q1662 (by simp [xsv]) dX4_number_316 ?_
      refine x_ldcS (n := 45) 45 srX4_66 dX4_number_319 ?_
      refine x_iload_n 1 dX4_number_321 rfl ?_
      refine x_lload 3 dX4_number_322 rfl ?_
      refine x_l2i dX4_number_324 ?_
      refine x_dconst0 dX4_number_325 ?_
      obtain ⟨g12, g13, hq⟩ := hq
      refine x_callI (Yc := YX14_init) (as := [rv (xGS G 2), rv (tx G 45), .int x1, .int (Int64.toInt32 x10), .double FP.dconst0]) (st := [rv a6]) q1598 miX14_init (by rw [t11]; decide) rfl dX4_number_326 (xle (xal1 (rv_cat _) (xal1 (rv_cat _) (xal1 (rv_cat _) (xal1 rfl (xal1 rfl (xal2 rfl xal0)))))) (by decide)) (xfr g12) (xlo (xsw1 (rv_cat _) xsw0) (by decide) g13) (xKv hq (fun h14 hq e16 => ?_) (fun _ _ q _ => q))
      replace hq := hq e16
      exact x_aret rfl xty_O dX4_number_329 hq
    · replace hq := hq.2 c3
      refine x_aload_n 0 dX4_number_306 rfl ?_
      refine x_iload_n 1 dX4_number_307 rfl ?_
      obtain ⟨g17, g18, hq⟩ := hq
      refine x_callV (Yc := YX4_wrong) (as := [.int x1]) (st := []) q1588 mvX4_wrong g1 rfl dX4_number_308 (xle (xal1 (rv_cat _) (xal1 rfl xal0)) (by decide)) (xfr g17) (xlo xsw0 (by decide) g18) (xKr hq (fun x20 h19 hq e21 => ?_) (fun _ _ q _ => q))
      replace hq := hq e21
      obtain ⟨r22, g23, hq⟩ := hq
      rw [g23]
      exact x_athrow dX4_number_311 hq
  · replace hq := hq.2 c2
    refine x_iload 2 dX4_number_248 rfl ?_
    refine x_if_eq (tgt := 258) dX4_number_250 (by decide) (fun c24 => ?_) (fun c24 => ?_)
    · replace hq := hq.1 c24
      refine x_ldc2 (v := 10) q1659 dX4_number_258 ?_
      refine x_lload 3 dX4_number_261 rfl ?_
      refine x_lmul dX4_number_263 ?_
      refine x_aload_n 0 dX4_number_264 rfl ?_
      refine x_get (v := rv (fR h x0 1024)) fdX4_20 dX4_number_265 g1 rfl ?_
      refine x_iload 4 dX4_number_268 rfl ?_
      obtain ⟨g25, hq⟩ := hq
      obtain ⟨i26, hq⟩ := hq
      refine x_bald g25 i26 dX4_number_270 ?_
      refine x_i2l dX4_number_271 ?_
      refine x_ladd dX4_number_272 ?_
      refine x_ldc2 (v := 48) q1660 dX4_number_273 ?_
      refine x_lsub dX4_number_276 ?_
      refine xP.pick (lv' := [(0, rv x0), (1, .int x1), (12, .int x12)]) [0, 1, 4] rfl ?_
      exact uX4_number_277 hq
    · replace hq := hq.2 c24
      refine x_lload 3 dX4_number_253 rfl ?_
      refine x_goto (tgt := 277) dX4_number_255 (by decide) ?_
      refine xP.pick (lv' := [(0, rv x0), (1, .int x1), (12, .int x12)]) [0, 1, 4] rfl ?_
      exact uX4_number_277 hq
set_option maxRecDepth 100000 in
def bX4_number_218 (G : xG) (fr lo : Nat) (x0 : Nat) (x1 : Int32) (x2 : Int64) (x4 : Int32) (x5 : Int32) (x6 : Int32) (x7 : Int32) (s0 : Int32) (h : xH) (Q : Outcome → xH → Prop) : Prop := ((¬ x6 = 0 → bX4_number_330 G fr lo x0 x1 x2 x4 x5 x7 s0 h Q) ∧ (x6 = 0 → ((¬ s0 = 0 → bX4_number_330 G fr lo x0 x1 x2 x4 x5 x7 s0 h Q) ∧ (s0 = 0 → lX4_number_239 G fr lo x0 x1 0 0 x1 h Q))))
set_option maxRecDepth 100000 in
theorem uX4_number_218 {G : xG} {fr lo : Nat} {x0 : Nat} {x1 : Int32} {x2 : Int64} {x4 : Int32} {x5 : Int32} {x6 : Int32} {x7 : Int32} {s0 : Int32} {h : xH} {Q : Outcome → xH → Prop} (hq : bX4_number_218 G fr lo x0 x1 x2 x4 x5 x6 x7 s0 h Q) : xP G YX4_number fr lo 218 [(0, rv x0), (1, .int x1), (2, .long x2), (4, .int x4), (5, .int x5), (6, .int x6), (7, .int x7)] [.int s0] h Q := by
  unfold bX4_number_218 at hq
  refine x_istore (lv' := [(8, .int s0), (0, rv x0), (1, .int x1), (2, .long x2), (4, .int x4), (5, .int x5), (6, .int x6), (7, .int x7)]) dX4_number_218 (by decide) rfl ?_
  refine x_iload 6 dX4_number_220 rfl ?_
  refine x_if_ne (tgt := 330) dX4_number_222 (by decide) (fun c1 => ?_) (fun c1 => ?_)
  · replace hq := hq.1 c1
    refine xP.pick (lv' := [(0, rv x0), (1, .int x1), (2, .long x2), (4, .int x4), (5, .int x5), (7, .int x7), (8, .int s0)]) [1, 2, 3, 4, 5, 7, 0] rfl ?_
    exact uX4_number_330 hq
  · replace hq := hq.2 c1
    refine x_iload 0 dX4_number_225 rfl ?_
    refine x_if_ne (tgt := 330) dX4_number_227 (by decide) (fun c2 => ?_) (fun c2 => ?_)
    · replace hq := hq.1 c2
      refine xP.pick (lv' := [(0, rv x0), (1, .int x1), (2, .long x2), (4, .int x4), (5, .int x5), (7, .int x7), (8, .int s0)]) [1, 2, 3, 4, 5, 7, 0] rfl ?_
      exact uX4_number_330 hq
    · replace hq := hq.2 c2
      refine x_iconst (v := 0) dX4_number_230 (by decide) ?_
      refine x_istore (lv' := [(9, .int 0), (8, .int s0), (0, rv x0), (1, .int x1), (2, .long x2), (4, .int x4), (5, .int x5), (6, .int x6), (7, .int x7)]) dX4_number_231 (by decide) rfl ?_
      refine x_lconst (v := 0) dX4_number_233 (by decide) ?_
      refine x_lstore (lv' := [(10, .long 0), (9, .int 0), (8, .int s0), (0, rv x0), (1, .int x1), (2, .long x2), (4, .int x4), (5, .int x5), (6, .int x6), (7, .int x7)]) dX4_number_234 (by decide) rfl ?_
      refine x_iload_n 4 dX4_number_236 rfl ?_
      refine x_istore (lv' := [(12, .int x1), (10, .long 0), (9, .int 0), (8, .int s0), (0, rv x0), (1, .int x1), (2, .long x2), (4, .int x4), (5, .int x5), (6, .int x6), (7, .int x7)]) dX4_number_237 (by decide) rfl ?_
      refine xP.pick (lv' := [(0, rv x0), (1, .int x1), (9, .int 0), (10, .long 0), (12, .int x1)]) [4, 5, 2, 1, 0] rfl ?_
      exact hq
set_option maxRecDepth 100000 in
def bX4_number_217 (G : xG) (fr lo : Nat) (x0 : Nat) (x1 : Int32) (x2 : Int64) (x4 : Int32) (x5 : Int32) (x6 : Int32) (x7 : Int32) (h : xH) (Q : Outcome → xH → Prop) : Prop := bX4_number_218 G fr lo x0 x1 x2 x4 x5 x6 x7 0 h Q
set_option maxRecDepth 100000 in
theorem uX4_number_217 {G : xG} {fr lo : Nat} {x0 : Nat} {x1 : Int32} {x2 : Int64} {x4 : Int32} {x5 : Int32} {x6 : Int32} {x7 : Int32} {h : xH} {Q : Outcome → xH → Prop} (hq : bX4_number_217 G fr lo x0 x1 x2 x4 x5 x6 x7 h Q) : xP G YX4_number fr lo 217 [(0, rv x0), (1, .int x1), (2, .long x2), (4, .int x4), (5, .int x5), (6, .int x6), (7, .int x7)] [] h Q := by
  unfold bX4_number_217 at hq
  refine x_iconst (v := 0) dX4_number_217 (by decide) ?_
  exact uX4_number_218 hq
set_option maxRecDepth 100000 in
def bX4_number_186 (G : xG) (fr lo : Nat) (x0 : Nat) (x1 : Int32) (x2 : Int64) (x4 : Int32) (x5 : Int32) (x6 : Int32) (s0 : Int32) (h : xH) (Q : Outcome → xH → Prop) : Prop := tg h x0 = 5 ∧ 1 ≤ fr ∧ 13 ≤ lo ∧ xRi G YX4_here (fr - 1) (lo - 13) [rv x0, .int 0] h (fun x5 h4 => xext h h4 → 1 ≤ fr ∧ 12 ≤ lo ∧ xRi G YX0_small (fr - 1) (lo - 12) [.int x5] h4 (fun x10 h9 => xext h4 h9 → ((¬ x10 = 101 → bX4_number_217 G fr lo x0 x1 x2 x4 x5 x6 s0 h9 Q) ∧ (x10 = 101 → 1 ≤ fr ∧ 13 ≤ lo ∧ xRi G YX4_here (fr - 1) (lo - 13) [rv x0, .int s0] h9 (fun x18 h17 => xext h9 h17 → 1 ≤ fr ∧ 12 ≤ lo ∧ xRi G YX0_isDigit (fr - 1) (lo - 12) [.int x18] h17 (fun x23 h22 => xext h17 h22 → ((x23 = 0 → bX4_number_217 G fr lo x0 x1 x2 x4 x5 x6 s0 h22 Q) ∧ (¬ x23 = 0 → bX4_number_218 G fr lo x0 x1 x2 x4 x5 x6 s0 1 h22 Q))) (fun r h2 => Q (.threw r) h2)) (fun r h2 => Q (.threw r) h2)))) (fun r h2 => Q (.threw r) h2)) (fun r h2 => Q (.threw r) h2)
set_option maxRecDepth 100000 in
theorem uX4_number_186 {G : xG} {fr lo : Nat} {x0 : Nat} {x1 : Int32} {x2 : Int64} {x4 : Int32} {x5 : Int32} {x6 : Int32} {s0 : Int32} {h : xH} {Q : Outcome → xH → Prop} (hq : bX4_number_186 G fr lo x0 x1 x2 x4 x5 x6 s0 h Q) : xP G YX4_number fr lo 186 [(0, rv x0), (1, .int x1), (2, .long x2), (4, .int x4), (5, .int x5), (6, .int x6)] [.int s0] h Q := by
  unfold bX4_number_186 at hq
  refine x_istore (lv' := [(7, .int s0), (0, rv x0), (1, .int x1), (2, .long x2), (4, .int x4), (5, .int x5), (6, .int x6)]) dX4_number_186 (by decide) rfl ?_
  refine x_aload_n 1 dX4_number_188 rfl ?_
  refine x_iconst (v := 0) dX4_number_189 (by decide) ?_
  obtain ⟨g1, hq⟩ := hq
  obtain ⟨g2, g3, hq⟩ := hq
  refine x_callV (Yc := YX4_here) (as := [.int 0]) (st := []) q1580 mvX4_here g1 rfl dX4_number_190 (xle (xal1 (rv_cat _) (xal1 rfl xal0)) (by decide)) (xfr g2) (xlo xsw0 (by decide) g3) (xKi hq (fun x5 h4 hq e6 => ?_) (fun _ _ q _ => q))
  replace hq := hq e6
  obtain ⟨g7, g8, hq⟩ := hq
  refine x_callSN (Yc := YX0_small) (as := [.int x5]) (st := []) (List.mem_filter.mpr ⟨q1638, rfl⟩) msX0_small rfl dX4_number_193 (xle (xal1 rfl xal0) (by decide)) (xfr g7) (xlo xsw0 (by decide) g8) (xKi hq (fun x10 h9 hq e11 => ?_) (fun _ _ q _ => q))
  replace hq := hq e11
  refine x_bipush (v := 101) dX4_number_196 (by decide) ?_
  refine x_icmp_ne (tgt := 217) dX4_number_198 (by decide) (fun c12 => ?_) (fun c12 => ?_)
  · replace hq := hq.1 c12
    refine xP.pick (lv' := [(0, rv x0), (1, .int x1), (2, .long x2), (4, .int x4), (5, .int x5), (6, .int x6), (7, .int s0)]) [1, 2, 3, 4, 5, 6, 0] rfl ?_
    exact uX4_number_217 hq
  · replace hq := hq.2 c12
    refine x_aload_n 1 dX4_number_201 rfl ?_
    refine x_iload 0 dX4_number_202 rfl ?_
    have t13 : tg h4 x0 = 5 := e6.tg g1 (by decide)
    have t14 : tg h9 x0 = 5 := e11.tg t13 (by decide)
    obtain ⟨g15, g16, hq⟩ := hq
    refine x_callV (Yc := YX4_here) (as := [.int s0]) (st := []) q1580 mvX4_here t14 rfl dX4_number_204 (xle (xal1 (rv_cat _) (xal1 rfl xal0)) (by decide)) (xfr g15) (xlo xsw0 (by decide) g16) (xKi hq (fun x18 h17 hq e19 => ?_) (fun _ _ q _ => q))
    replace hq := hq e19
    obtain ⟨g20, g21, hq⟩ := hq
    refine x_callSN (Yc := YX0_isDigit) (as := [.int x18]) (st := []) (List.mem_filter.mpr ⟨q1635, rfl⟩) msX0_isDigit rfl dX4_number_207 (xle (xal1 rfl xal0) (by decide)) (xfr g20) (xlo xsw0 (by decide) g21) (xKi hq (fun x23 h22 hq e24 => ?_) (fun _ _ q _ => q))
    replace hq := hq e24
    refine x_if_eq (tgt := 217) dX4_number_210 (by decide) (fun c25 => ?_) (fun c25 => ?_)
    · replace hq := hq.1 c25
      refine xP.pick (lv' := [(0, rv x0), (1, .int x1), (2, .long x2), (4, .int x4), (5, .int x5), (6, .int x6), (7, .int s0)]) [1, 2, 3, 4, 5, 6, 0] rfl ?_
      exact uX4_number_217 hq
    · replace hq := hq.2 c25
      refine x_iconst (v := 1) dX4_number_213 (by decide) ?_
      refine x_goto (tgt := 218) dX4_number_214 (by decide) ?_
      refine xP.pick (lv' := [(0, rv x0), (1, .int x1), (2, .long x2), (4, .int x4), (5, .int x5), (6, .int x6), (7, .int s0)]) [1, 2, 3, 4, 5, 6, 0] rfl ?_
      exact uX4_number_218 hq
set_option maxRecDepth 100000 in
def bX4_number_181 (G : xG) (fr lo : Nat) (x0 : Nat) (x1 : Int32) (x2 : Int64) (x4 : Int32) (x5 : Int32) (x6 : Int32) (h : xH) (Q : Outcome → xH → Prop) : Prop := bX4_number_186 G fr lo x0 x1 x2 x4 x5 x6 2 h Q
set_option maxRecDepth 100000 in
theorem uX4_number_181 {G : xG} {fr lo : Nat} {x0 : Nat} {x1 : Int32} {x2 : Int64} {x4 : Int32} {x5 : Int32} {x6 : Int32} {h : xH} {Q : Outcome → xH → Prop} (hq : bX4_number_181 G fr lo x0 x1 x2 x4 x5 x6 h Q) : xP G YX4_number fr lo 181 [(0, rv x0), (1, .int x1), (2, .long x2), (4, .int x4), (5, .int x5), (6, .int x6)] [] h Q := by
  unfold bX4_number_181 at hq
  refine x_iconst (v := 2) dX4_number_181 (by decide) ?_
  refine x_goto (tgt := 186) dX4_number_182 (by decide) ?_
  exact uX4_number_186 hq
set_option maxRecDepth 100000 in
def bX4_number_161 (G : xG) (fr lo : Nat) (x0 : Nat) (x1 : Int32) (x2 : Int64) (x4 : Int32) (x5 : Int32) (x6 : Int32) (h : xH) (Q : Outcome → xH → Prop) : Prop := tg h x0 = 5 ∧ 1 ≤ fr ∧ 13 ≤ lo ∧ xRi G YX4_here (fr - 1) (lo - 13) [rv x0, .int 1] h (fun x5 h4 => xext h h4 → ((x5 = 43 → bX4_number_181 G fr lo x0 x1 x2 x4 x5 x6 h4 Q) ∧ (¬ x5 = 43 → 1 ≤ fr ∧ 13 ≤ lo ∧ xRi G YX4_here (fr - 1) (lo - 13) [rv x0, .int 1] h4 (fun x12 h11 => xext h4 h11 → ((¬ x12 = 45 → bX4_number_186 G fr lo x0 x1 x2 x4 x5 x6 1 h11 Q) ∧ (x12 = 45 → bX4_number_181 G fr lo x0 x1 x2 x4 x5 x6 h11 Q))) (fun r h2 => Q (.threw r) h2)))) (fun r h2 => Q (.threw r) h2)
set_option maxRecDepth 100000 in
theorem uX4_number_161 {G : xG} {fr lo : Nat} {x0 : Nat} {x1 : Int32} {x2 : Int64} {x4 : Int32} {x5 : Int32} {x6 : Int32} {h : xH} {Q : Outcome → xH → Prop} (hq : bX4_number_161 G fr lo x0 x1 x2 x4 x5 x6 h Q) : xP G YX4_number fr lo 161 [(0, rv x0), (1, .int x1), (2, .long x2), (4, .int x4), (5, .int x5), (6, .int x6)] [] h Q := by
  unfold bX4_number_161 at hq
  refine x_aload_n 0 dX4_number_161 rfl ?_
  refine x_iconst (v := 1) dX4_number_162 (by decide) ?_
  obtain ⟨g1, hq⟩ := hq
  obtain ⟨g2, g3, hq⟩ := hq
  refine x_callV (Yc := YX4_here) (as := [.int 1]) (st := []) q1580 mvX4_here g1 rfl dX4_number_163 (xle (xal1 (rv_cat _) (xal1 rfl xal0)) (by decide)) (xfr g2) (xlo xsw0 (by decide) g3) (xKi hq (fun x5 h4 hq e6 => ?_) (fun _ _ q _ => q))
  replace hq := hq e6
  refine x_bipush (v := 43) dX4_number_166 (by decide) ?_
  refine x_icmp_eq (tgt := 181) dX4_number_168 (by decide) (fun c7 => ?_) (fun c7 => ?_)
  · replace hq := hq.1 c7
    exact uX4_number_181 hq
  · replace hq := hq.2 c7
    refine x_aload_n 0 dX4_number_171 rfl ?_
    refine x_iconst (v := 1) dX4_number_172 (by decide) ?_
    have t8 : tg h4 x0 = 5 := e6.tg g1 (by decide)
    obtain ⟨g9, g10, hq⟩ := hq
    refine x_callV (Yc := YX4_here) (as := [.int 1]) (st := []) q1580 mvX4_here t8 rfl dX4_number_173 (xle (xal1 (rv_cat _) (xal1 rfl xal0)) (by decide)) (xfr g9) (xlo xsw0 (by decide) g10) (xKi hq (fun x12 h11 hq e13 => ?_) (fun _ _ q _ => q))
    replace hq := hq e13
    refine x_bipush (v := 45) dX4_number_176 (by decide) ?_
    refine x_icmp_ne (tgt := 185) dX4_number_178 (by decide) (fun c14 => ?_) (fun c14 => ?_)
    · replace hq := hq.1 c14
      refine x_iconst (v := 1) dX4_number_185 (by decide) ?_
      exact uX4_number_186 hq
    · replace hq := hq.2 c14
      exact uX4_number_181 hq
set_option maxRecDepth 100000 in
def bX4_number_142 (G : xG) (fr lo : Nat) (x0 : Nat) (x1 : Int32) (x2 : Int64) (x4 : Int32) (x5 : Int32) (x6 : Int32) (h : xH) (Q : Outcome → xH → Prop) : Prop := tg h x0 = 5 ∧ (∀ h2 : xH, h2 = sI h x0 1029 ((fI h x0 1029) + 1) → lX4_number_107 G fr lo x0 x1 x2 (x4 + 1) (x5 + 1) x6 h2 Q)
set_option maxRecDepth 100000 in
theorem uX4_number_142 {G : xG} {fr lo : Nat} {x0 : Nat} {x1 : Int32} {x2 : Int64} {x4 : Int32} {x5 : Int32} {x6 : Int32} {h : xH} {Q : Outcome → xH → Prop} (hq : bX4_number_142 G fr lo x0 x1 x2 x4 x5 x6 h Q) : xP G YX4_number fr lo 142 [(0, rv x0), (1, .int x1), (2, .long x2), (4, .int x4), (5, .int x5), (6, .int x6)] [] h Q := by
  unfold bX4_number_142 at hq
  refine x_iinc (lv' := [(4, .int (x4 + 1)), (0, rv x0), (1, .int x1), (2, .long x2), (5, .int x5), (6, .int x6)]) 3 dX4_number_142 rfl (by decide) rfl ?_
  refine x_iinc (lv' := [(5, .int (x5 + 1)), (4, .int (x4 + 1)), (0, rv x0), (1, .int x1), (2, .long x2), (6, .int x6)]) 4 dX4_number_145 rfl (by decide) rfl ?_
  refine x_aload_n 2 dX4_number_148 rfl ?_
  refine x_dup dX4_number_149 (rv_cat _) ?_
  obtain ⟨g1, hq⟩ := hq
  refine x_get (v := .int (fI h x0 1029)) fdX4_36 dX4_number_150 g1 rfl ?_
  refine x_iconst (v := 1) dX4_number_153 (by decide) ?_
  refine x_iadd dX4_number_154 ?_
  obtain ⟨h2, e3⟩ : ∃ y, y = sI h x0 1029 ((fI h x0 1029) + 1) := ⟨_, rfl⟩
  replace hq := hq h2 e3
  refine x_putI fdX4_36 xty_I1 dX4_number_155 g1 (Or.inl (by rw [g1]; rfl)) xnI rfl e3 ?_
  refine x_goto (tgt := 107) dX4_number_158 (by decide) ?_
  refine xP.pick (lv' := [(0, rv x0), (1, .int x1), (2, .long x2), (4, .int (x4 + 1)), (5, .int (x5 + 1)), (6, .int x6)]) [2, 3, 4, 1, 0, 5] rfl ?_
  exact hq
set_option maxRecDepth 100000 in
def bX4_number_107 (G : xG) (fr lo : Nat) (x0 : Nat) (x1 : Int32) (x2 : Int64) (x4 : Int32) (x5 : Int32) (x6 : Int32) (h : xH) (Q : Outcome → xH → Prop) : Prop := tg h x0 = 5 ∧ 1 ≤ fr ∧ 13 ≤ lo ∧ xRi G YX4_here (fr - 1) (lo - 13) [rv x0, .int 0] h (fun x5 h4 => xext h h4 → 1 ≤ fr ∧ 12 ≤ lo ∧ xRi G YX0_isDigit (fr - 1) (lo - 12) [.int x5] h4 (fun x10 h9 => xext h4 h9 → ((x10 = 0 → bX4_number_161 G fr lo x0 x1 x2 x4 x5 x6 h9 Q) ∧ (¬ x10 = 0 → ((15 ≤ x4 → bX4_number_142 G fr lo x0 x1 x2 x4 x5 x6 h9 Q) ∧ (¬ 15 ≤ x4 → 1 ≤ fr ∧ 15 ≤ lo ∧ xRi G YX4_here (fr - 1) (lo - 15) [rv x0, .int 0] h9 (fun x19 h18 => xext h9 h18 → bX4_number_142 G fr lo x0 x1 (((10 * x2) + (Int32.toInt64 x19)) - 48) x4 x5 x6 h18 Q) (fun r h2 => Q (.threw r) h2)))))) (fun r h2 => Q (.threw r) h2)) (fun r h2 => Q (.threw r) h2)
set_option maxRecDepth 100000 in
theorem uX4_number_107 {G : xG} {fr lo : Nat} {x0 : Nat} {x1 : Int32} {x2 : Int64} {x4 : Int32} {x5 : Int32} {x6 : Int32} {h : xH} {Q : Outcome → xH → Prop} (hq : bX4_number_107 G fr lo x0 x1 x2 x4 x5 x6 h Q) : xP G YX4_number fr lo 107 [(0, rv x0), (1, .int x1), (2, .long x2), (4, .int x4), (5, .int x5), (6, .int x6)] [] h Q := by
  unfold bX4_number_107 at hq
  refine x_aload_n 0 dX4_number_107 rfl ?_
  refine x_iconst (v := 0) dX4_number_108 (by decide) ?_
  obtain ⟨g1, hq⟩ := hq
  obtain ⟨g2, g3, hq⟩ := hq
  refine x_callV (Yc := YX4_here) (as := [.int 0]) (st := []) q1580 mvX4_here g1 rfl dX4_number_109 (xle (xal1 (rv_cat _) (xal1 rfl xal0)) (by decide)) (xfr g2) (xlo xsw0 (by decide) g3) (xKi hq (fun x5 h4 hq e6 => ?_) (fun _ _ q _ => q))
  replace hq := hq e6
  obtain ⟨g7, g8, hq⟩ := hq
  refine x_callSN (Yc := YX0_isDigit) (as := [.int x5]) (st := []) (List.mem_filter.mpr ⟨q1635, rfl⟩) msX0_isDigit rfl dX4_number_112 (xle (xal1 rfl xal0) (by decide)) (xfr g7) (xlo xsw0 (by decide) g8) (xKi hq (fun x10 h9 hq e11 => ?_) (fun _ _ q _ => q))
  replace hq := hq e11
  refine x_if_eq (tgt := 161) dX4_number_115 (by decide) (fun c12 => ?_) (fun c12 => ?_)
  · replace hq := hq.1 c12
    exact uX4_number_161 hq
  · replace hq := hq.2 c12
    refine x_iload 3 dX4_number_118 rfl ?_
    refine x_bipush (v := 15) dX4_number_120 (by decide) ?_
    refine x_icmp_ge (tgt := 142) dX4_number_122 (by decide) (fun c13 => ?_) (fun c13 => ?_)
    · replace hq := hq.1 c13
      exact uX4_number_142 hq
    · replace hq := hq.2 c13
      refine x_ldc2 (v := 10) q1659 dX4_number_125 ?_
      refine x_lload_n 2 dX4_number_128 rfl ?_
      refine x_lmul dX4_number_129 ?_
      refine x_aload_n 0 dX4_number_130 rfl ?_
      refine x_iconst (v := 0) dX4_number_131 (by decide) ?_
      have t14 : tg h4 x0 = 5 := e6.tg g1 (by decide)
      have t15 : tg h9 x0 = 5 := e11.tg t14 (by decide)
      obtain ⟨g16, g17, hq⟩ := hq
      refine x_callV (Yc := YX4_here) (as := [.int 0]) (st := [.long (10 * x2)]) q1580 mvX4_here t15 rfl dX4_number_132 (xle (xal1 (rv_cat _) (xal1 rfl xal0)) (by decide)) (xfr g16) (xlo (xsw2 rfl xsw0) (by decide) g17) (xKi hq (fun x19 h18 hq e20 => ?_) (fun _ _ q _ => q))
      replace hq := hq e20
      refine x_i2l dX4_number_135 ?_
      refine x_ladd dX4_number_136 ?_
      refine x_ldc2 (v := 48) q1660 dX4_number_137 ?_
      refine x_lsub dX4_number_140 ?_
      refine x_lstore_n (lv' := [(2, .long (((10 * x2) + (Int32.toInt64 x19)) - 48)), (0, rv x0), (1, .int x1), (4, .int x4), (5, .int x5), (6, .int x6)]) dX4_number_141 (by decide) rfl ?_
      refine xP.pick (lv' := [(0, rv x0), (1, .int x1), (2, .long (((10 * x2) + (Int32.toInt64 x19)) - 48)), (4, .int x4), (5, .int x5), (6, .int x6)]) [1, 2, 0, 3, 4, 5] rfl ?_
      exact uX4_number_142 hq
set_option maxRecDepth 100000 in
def bX4_number_90 (G : xG) (fr lo : Nat) (x0 : Nat) (x1 : Int32) (x2 : Int64) (x4 : Int32) (x5 : Int32) (s0 : Int32) (h : xH) (Q : Outcome → xH → Prop) : Prop := ((s0 = 0 → bX4_number_161 G fr lo x0 x1 x2 x4 x5 s0 h Q) ∧ (¬ s0 = 0 → tg h x0 = 5 ∧ (∀ h3 : xH, h3 = sI h x0 1029 ((fI h x0 1029) + 1) → lX4_number_107 G fr lo x0 x1 x2 x4 x5 s0 h3 Q)))
set_option maxRecDepth 100000 in
theorem uX4_number_90 {G : xG} {fr lo : Nat} {x0 : Nat} {x1 : Int32} {x2 : Int64} {x4 : Int32} {x5 : Int32} {s0 : Int32} {h : xH} {Q : Outcome → xH → Prop} (hq : bX4_number_90 G fr lo x0 x1 x2 x4 x5 s0 h Q) : xP G YX4_number fr lo 90 [(0, rv x0), (1, .int x1), (2, .long x2), (4, .int x4), (5, .int x5)] [.int s0] h Q := by
  unfold bX4_number_90 at hq
  refine x_istore (lv' := [(6, .int s0), (0, rv x0), (1, .int x1), (2, .long x2), (4, .int x4), (5, .int x5)]) dX4_number_90 (by decide) rfl ?_
  refine x_iload 0 dX4_number_92 rfl ?_
  refine x_if_eq (tgt := 161) dX4_number_94 (by decide) (fun c1 => ?_) (fun c1 => ?_)
  · replace hq := hq.1 c1
    refine xP.pick (lv' := [(0, rv x0), (1, .int x1), (2, .long x2), (4, .int x4), (5, .int x5), (6, .int s0)]) [1, 2, 3, 4, 5, 0] rfl ?_
    exact uX4_number_161 hq
  · replace hq := hq.2 c1
    refine x_aload_n 1 dX4_number_97 rfl ?_
    refine x_dup dX4_number_98 (rv_cat _) ?_
    obtain ⟨g2, hq⟩ := hq
    refine x_get (v := .int (fI h x0 1029)) fdX4_36 dX4_number_99 g2 rfl ?_
    refine x_iconst (v := 1) dX4_number_102 (by decide) ?_
    refine x_iadd dX4_number_103 ?_
    obtain ⟨h3, e4⟩ : ∃ y, y = sI h x0 1029 ((fI h x0 1029) + 1) := ⟨_, rfl⟩
    replace hq := hq h3 e4
    refine x_putI fdX4_36 xty_I1 dX4_number_104 g2 (Or.inl (by rw [g2]; rfl)) xnI rfl e4 ?_
    refine xP.pick (lv' := [(0, rv x0), (1, .int x1), (2, .long x2), (4, .int x4), (5, .int x5), (6, .int s0)]) [1, 2, 3, 4, 5, 0] rfl ?_
    exact hq
set_option maxRecDepth 100000 in
def bX4_number_89 (G : xG) (fr lo : Nat) (x0 : Nat) (x1 : Int32) (x2 : Int64) (x4 : Int32) (x5 : Int32) (h : xH) (Q : Outcome → xH → Prop) : Prop := bX4_number_90 G fr lo x0 x1 x2 x4 x5 0 h Q
set_option maxRecDepth 100000 in
theorem uX4_number_89 {G : xG} {fr lo : Nat} {x0 : Nat} {x1 : Int32} {x2 : Int64} {x4 : Int32} {x5 : Int32} {h : xH} {Q : Outcome → xH → Prop} (hq : bX4_number_89 G fr lo x0 x1 x2 x4 x5 h Q) : xP G YX4_number fr lo 89 [(0, rv x0), (1, .int x1), (2, .long x2), (4, .int x4), (5, .int x5)] [] h Q := by
  unfold bX4_number_89 at hq
  refine x_iconst (v := 0) dX4_number_89 (by decide) ?_
  exact uX4_number_90 hq
set_option maxRecDepth 100000 in
def bX4_number_48 (G : xG) (fr lo : Nat) (x0 : Nat) (x1 : Int32) (x2 : Int64) (x4 : Int32) (x5 : Int32) (h : xH) (Q : Outcome → xH → Prop) : Prop := tg h x0 = 5 ∧ (∀ h2 : xH, h2 = sI h x0 1029 ((fI h x0 1029) + 1) → lX4_number_13 G fr lo x0 x1 x2 (x4 + 1) x5 h2 Q)
set_option maxRecDepth 100000 in
theorem uX4_number_48 {G : xG} {fr lo : Nat} {x0 : Nat} {x1 : Int32} {x2 : Int64} {x4 : Int32} {x5 : Int32} {h : xH} {Q : Outcome → xH → Prop} (hq : bX4_number_48 G fr lo x0 x1 x2 x4 x5 h Q) : xP G YX4_number fr lo 48 [(0, rv x0), (1, .int x1), (2, .long x2), (4, .int x4), (5, .int x5)] [] h Q := by
  unfold bX4_number_48 at hq
  refine x_iinc (lv' := [(4, .int (x4 + 1)), (0, rv x0), (1, .int x1), (2, .long x2), (5, .int x5)]) 3 dX4_number_48 rfl (by decide) rfl ?_
  refine x_aload_n 1 dX4_number_51 rfl ?_
  refine x_dup dX4_number_52 (rv_cat _) ?_
  obtain ⟨g1, hq⟩ := hq
  refine x_get (v := .int (fI h x0 1029)) fdX4_36 dX4_number_53 g1 rfl ?_
  refine x_iconst (v := 1) dX4_number_56 (by decide) ?_
  refine x_iadd dX4_number_57 ?_
  obtain ⟨h2, e3⟩ : ∃ y, y = sI h x0 1029 ((fI h x0 1029) + 1) := ⟨_, rfl⟩
  replace hq := hq h2 e3
  refine x_putI fdX4_36 xty_I1 dX4_number_58 g1 (Or.inl (by rw [g1]; rfl)) xnI rfl e3 ?_
  refine x_goto (tgt := 13) dX4_number_61 (by decide) ?_
  refine xP.pick (lv' := [(0, rv x0), (1, .int x1), (2, .long x2), (4, .int (x4 + 1)), (5, .int x5)]) [1, 2, 3, 0, 4] rfl ?_
  exact hq
set_option maxRecDepth 100000 in
def bX4_number_13 (G : xG) (fr lo : Nat) (x0 : Nat) (x1 : Int32) (x2 : Int64) (x4 : Int32) (x5 : Int32) (h : xH) (Q : Outcome → xH → Prop) : Prop := tg h x0 = 5 ∧ 1 ≤ fr ∧ 13 ≤ lo ∧ xRi G YX4_here (fr - 1) (lo - 13) [rv x0, .int 0] h (fun x5 h4 => xext h h4 → 1 ≤ fr ∧ 12 ≤ lo ∧ xRi G YX0_isDigit (fr - 1) (lo - 12) [.int x5] h4 (fun x10 h9 => xext h4 h9 → ((x10 = 0 → 1 ≤ fr ∧ 13 ≤ lo ∧ xRi G YX4_here (fr - 1) (lo - 13) [rv x0, .int 0] h9 (fun x18 h17 => xext h9 h17 → ((¬ x18 = 46 → bX4_number_89 G fr lo x0 x1 x2 x4 x5 h17 Q) ∧ (x18 = 46 → 1 ≤ fr ∧ 13 ≤ lo ∧ xRi G YX4_here (fr - 1) (lo - 13) [rv x0, .int 1] h17 (fun x25 h24 => xext h17 h24 → 1 ≤ fr ∧ 12 ≤ lo ∧ xRi G YX0_isDigit (fr - 1) (lo - 12) [.int x25] h24 (fun x30 h29 => xext h24 h29 → ((x30 = 0 → bX4_number_89 G fr lo x0 x1 x2 x4 x5 h29 Q) ∧ (¬ x30 = 0 → bX4_number_90 G fr lo x0 x1 x2 x4 x5 1 h29 Q))) (fun r h2 => Q (.threw r) h2)) (fun r h2 => Q (.threw r) h2)))) (fun r h2 => Q (.threw r) h2)) ∧ (¬ x10 = 0 → ((15 ≤ x4 → bX4_number_48 G fr lo x0 x1 x2 x4 x5 h9 Q) ∧ (¬ 15 ≤ x4 → 1 ≤ fr ∧ 15 ≤ lo ∧ xRi G YX4_here (fr - 1) (lo - 15) [rv x0, .int 0] h9 (fun x39 h38 => xext h9 h38 → bX4_number_48 G fr lo x0 x1 (((10 * x2) + (Int32.toInt64 x39)) - 48) x4 x5 h38 Q) (fun r h2 => Q (.threw r) h2)))))) (fun r h2 => Q (.threw r) h2)) (fun r h2 => Q (.threw r) h2)
set_option maxRecDepth 100000 in
theorem uX4_number_13 {G : xG} {fr lo : Nat} {x0 : Nat} {x1 : Int32} {x2 : Int64} {x4 : Int32} {x5 : Int32} {h : xH} {Q : Outcome → xH → Prop} (hq : bX4_number_13 G fr lo x0 x1 x2 x4 x5 h Q) : xP G YX4_number fr lo 13 [(0, rv x0), (1, .int x1), (2, .long x2), (4, .int x4), (5, .int x5)] [] h Q := by
  unfold bX4_number_13 at hq
  refine x_aload_n 0 dX4_number_13 rfl ?_
  refine x_iconst (v := 0) dX4_number_14 (by decide) ?_
  obtain ⟨g1, hq⟩ := hq
  obtain ⟨g2, g3, hq⟩ := hq
  refine x_callV (Yc := YX4_here) (as := [.int 0]) (st := []) q1580 mvX4_here g1 rfl dX4_number_15 (xle (xal1 (rv_cat _) (xal1 rfl xal0)) (by decide)) (xfr g2) (xlo xsw0 (by decide) g3) (xKi hq (fun x5 h4 hq e6 => ?_) (fun _ _ q _ => q))
  replace hq := hq e6
  obtain ⟨g7, g8, hq⟩ := hq
  refine x_callSN (Yc := YX0_isDigit) (as := [.int x5]) (st := []) (List.mem_filter.mpr ⟨q1635, rfl⟩) msX0_isDigit rfl dX4_number_18 (xle (xal1 rfl xal0) (by decide)) (xfr g7) (xlo xsw0 (by decide) g8) (xKi hq (fun x10 h9 hq e11 => ?_) (fun _ _ q _ => q))
  replace hq := hq e11
  refine x_if_eq (tgt := 64) dX4_number_21 (by decide) (fun c12 => ?_) (fun c12 => ?_)
  · replace hq := hq.1 c12
    refine x_aload_n 0 dX4_number_64 rfl ?_
    refine x_iconst (v := 0) dX4_number_65 (by decide) ?_
    have t13 : tg h4 x0 = 5 := e6.tg g1 (by decide)
    have t14 : tg h9 x0 = 5 := e11.tg t13 (by decide)
    obtain ⟨g15, g16, hq⟩ := hq
    refine x_callV (Yc := YX4_here) (as := [.int 0]) (st := []) q1580 mvX4_here t14 rfl dX4_number_66 (xle (xal1 (rv_cat _) (xal1 rfl xal0)) (by decide)) (xfr g15) (xlo xsw0 (by decide) g16) (xKi hq (fun x18 h17 hq e19 => ?_) (fun _ _ q _ => q))
    replace hq := hq e19
    refine x_bipush (v := 46) dX4_number_69 (by decide) ?_
    refine x_icmp_ne (tgt := 89) dX4_number_71 (by decide) (fun c20 => ?_) (fun c20 => ?_)
    · replace hq := hq.1 c20
      exact uX4_number_89 hq
    · replace hq := hq.2 c20
      refine x_aload_n 0 dX4_number_74 rfl ?_
      refine x_iconst (v := 1) dX4_number_75 (by decide) ?_
      have t21 : tg h17 x0 = 5 := e19.tg t14 (by decide)
      obtain ⟨g22, g23, hq⟩ := hq
      refine x_callV (Yc := YX4_here) (as := [.int 1]) (st := []) q1580 mvX4_here t21 rfl dX4_number_76 (xle (xal1 (rv_cat _) (xal1 rfl xal0)) (by decide)) (xfr g22) (xlo xsw0 (by decide) g23) (xKi hq (fun x25 h24 hq e26 => ?_) (fun _ _ q _ => q))
      replace hq := hq e26
      obtain ⟨g27, g28, hq⟩ := hq
      refine x_callSN (Yc := YX0_isDigit) (as := [.int x25]) (st := []) (List.mem_filter.mpr ⟨q1635, rfl⟩) msX0_isDigit rfl dX4_number_79 (xle (xal1 rfl xal0) (by decide)) (xfr g27) (xlo xsw0 (by decide) g28) (xKi hq (fun x30 h29 hq e31 => ?_) (fun _ _ q _ => q))
      replace hq := hq e31
      refine x_if_eq (tgt := 89) dX4_number_82 (by decide) (fun c32 => ?_) (fun c32 => ?_)
      · replace hq := hq.1 c32
        exact uX4_number_89 hq
      · replace hq := hq.2 c32
        refine x_iconst (v := 1) dX4_number_85 (by decide) ?_
        refine x_goto (tgt := 90) dX4_number_86 (by decide) ?_
        exact uX4_number_90 hq
  · replace hq := hq.2 c12
    refine x_iload 3 dX4_number_24 rfl ?_
    refine x_bipush (v := 15) dX4_number_26 (by decide) ?_
    refine x_icmp_ge (tgt := 48) dX4_number_28 (by decide) (fun c33 => ?_) (fun c33 => ?_)
    · replace hq := hq.1 c33
      exact uX4_number_48 hq
    · replace hq := hq.2 c33
      refine x_ldc2 (v := 10) q1659 dX4_number_31 ?_
      refine x_lload_n 2 dX4_number_34 rfl ?_
      refine x_lmul dX4_number_35 ?_
      refine x_aload_n 0 dX4_number_36 rfl ?_
      refine x_iconst (v := 0) dX4_number_37 (by decide) ?_
      have t34 : tg h4 x0 = 5 := e6.tg g1 (by decide)
      have t35 : tg h9 x0 = 5 := e11.tg t34 (by decide)
      obtain ⟨g36, g37, hq⟩ := hq
      refine x_callV (Yc := YX4_here) (as := [.int 0]) (st := [.long (10 * x2)]) q1580 mvX4_here t35 rfl dX4_number_38 (xle (xal1 (rv_cat _) (xal1 rfl xal0)) (by decide)) (xfr g36) (xlo (xsw2 rfl xsw0) (by decide) g37) (xKi hq (fun x39 h38 hq e40 => ?_) (fun _ _ q _ => q))
      replace hq := hq e40
      refine x_i2l dX4_number_41 ?_
      refine x_ladd dX4_number_42 ?_
      refine x_ldc2 (v := 48) q1660 dX4_number_43 ?_
      refine x_lsub dX4_number_46 ?_
      refine x_lstore_n (lv' := [(2, .long (((10 * x2) + (Int32.toInt64 x39)) - 48)), (0, rv x0), (1, .int x1), (4, .int x4), (5, .int x5)]) dX4_number_47 (by decide) rfl ?_
      refine xP.pick (lv' := [(0, rv x0), (1, .int x1), (2, .long (((10 * x2) + (Int32.toInt64 x39)) - 48)), (4, .int x4), (5, .int x5)]) [1, 2, 0, 3, 4] rfl ?_
      exact uX4_number_48 hq
set_option maxRecDepth 100000 in
def bX4_number (G : xG) (fr lo : Nat) (x0 : Nat) (h : xH) (Q : Outcome → xH → Prop) : Prop := tg h x0 = 5 ∧ lX4_number_13 G fr lo x0 (fI h x0 1029) 0 0 0 h Q
set_option maxRecDepth 100000 in
theorem uX4_number {G : xG} {fr lo : Nat} {x0 : Nat} {h : xH} {Q : Outcome → xH → Prop} (hq : bX4_number G fr lo x0 h Q) : xP G YX4_number fr lo 0 [(0, rv x0)] [] h Q := by
  unfold bX4_number at hq
  refine x_aload_n 0 dX4_number_0 rfl ?_
  obtain ⟨g1, hq⟩ := hq
  refine x_get (v := .int (fI h x0 1029)) fdX4_36 dX4_number_1 g1 rfl ?_
  refine x_istore_n (lv' := [(1, .int (fI h x0 1029)), (0, rv x0)]) dX4_number_4 (by decide) (by first | rfl | (simp [rv_cat, Value.category]; done) | (simp [rv_cat, Value.category]; decide)) ?_
  refine x_lconst (v := 0) dX4_number_5 (by decide) ?_
  refine x_lstore_n (lv' := [(2, .long 0), (1, .int (fI h x0 1029)), (0, rv x0)]) dX4_number_6 (by decide) rfl ?_
  refine x_iconst (v := 0) dX4_number_7 (by decide) ?_
  refine x_istore (lv' := [(4, .int 0), (2, .long 0), (1, .int (fI h x0 1029)), (0, rv x0)]) dX4_number_8 (by decide) rfl ?_
  refine x_iconst (v := 0) dX4_number_10 (by decide) ?_
  refine x_istore (lv' := [(5, .int 0), (4, .int 0), (2, .long 0), (1, .int (fI h x0 1029)), (0, rv x0)]) dX4_number_11 (by decide) rfl ?_
  refine xP.pick (lv' := [(0, rv x0), (1, .int (fI h x0 1029)), (2, .long 0), (4, .int 0), (5, .int 0)]) [4, 3, 2, 1, 0] rfl ?_
  exact hq
theorem rX4_number {G : xG} {fr lo : Nat} {x0 : Nat} {h : xH} {Q : Outcome → xH → Prop} (hq : bX4_number G fr lo x0 h Q) : xR G YX4_number fr lo [rv x0] h Q := by
  show xP _ _ _ _ _ (lv_args 0 _) _ _ _
  rw [show lv_args 0 [rv x0] = [(0, rv x0)] from (xla1 (rv_cat _) xla0)]
  exact uX4_number hq
set_option maxRecDepth 100000 in
theorem dX4_exponent_0 : decode cX4_exponent 0 = .ok (.aload_n 0, 1) := by decide +kernel
set_option maxRecDepth 100000 in
theorem dX4_exponent_1 : decode cX4_exponent 1 = .ok (.iconst 1, 1) := by decide +kernel
set_option maxRecDepth 100000 in
theorem dX4_exponent_2 : decode cX4_exponent 2 = .ok (.invokevirtual 44, 3) := by decide +kernel
set_option maxRecDepth 100000 in
theorem dX4_exponent_5 : decode cX4_exponent 5 = .ok (.bipush 45, 2) := by decide +kernel
set_option maxRecDepth 100000 in
theorem dX4_exponent_7 : decode cX4_exponent 7 = .ok (.if_icmp .ne 7, 3) := by decide +kernel
set_option maxRecDepth 100000 in
theorem dX4_exponent_10 : decode cX4_exponent 10 = .ok (.iconst 1, 1) := by decide +kernel
set_option maxRecDepth 100000 in
theorem dX4_exponent_11 : decode cX4_exponent 11 = .ok (.goto 4, 3) := by decide +kernel
set_option maxRecDepth 100000 in
theorem dX4_exponent_14 : decode cX4_exponent 14 = .ok (.iconst 0, 1) := by decide +kernel
set_option maxRecDepth 100000 in
theorem dX4_exponent_15 : decode cX4_exponent 15 = .ok (.istore_n 2, 1) := by decide +kernel
set_option maxRecDepth 100000 in
theorem dX4_exponent_16 : decode cX4_exponent 16 = .ok (.aload_n 0, 1) := by decide +kernel
set_option maxRecDepth 100000 in
theorem dX4_exponent_17 : decode cX4_exponent 17 = .ok (.dup, 1) := by decide +kernel
set_option maxRecDepth 100000 in
theorem dX4_exponent_18 : decode cX4_exponent 18 = .ok (.getfield 36, 3) := by decide +kernel
set_option maxRecDepth 100000 in
theorem dX4_exponent_21 : decode cX4_exponent 21 = .ok (.iload_n 1, 1) := by decide +kernel
set_option maxRecDepth 100000 in
theorem dX4_exponent_22 : decode cX4_exponent 22 = .ok (.iadd, 1) := by decide +kernel
set_option maxRecDepth 100000 in
theorem dX4_exponent_23 : decode cX4_exponent 23 = .ok (.putfield 36, 3) := by decide +kernel
set_option maxRecDepth 100000 in
theorem dX4_exponent_26 : decode cX4_exponent 26 = .ok (.iconst 0, 1) := by decide +kernel
set_option maxRecDepth 100000 in
theorem dX4_exponent_27 : decode cX4_exponent 27 = .ok (.istore_n 3, 1) := by decide +kernel
set_option maxRecDepth 100000 in
theorem dX4_exponent_28 : decode cX4_exponent 28 = .ok (.iconst 0, 1) := by decide +kernel
set_option maxRecDepth 100000 in
theorem dX4_exponent_29 : decode cX4_exponent 29 = .ok (.istore 4, 2) := by decide +kernel
set_option maxRecDepth 100000 in
theorem dX4_exponent_31 : decode cX4_exponent 31 = .ok (.aload_n 0, 1) := by decide +kernel
set_option maxRecDepth 100000 in
theorem dX4_exponent_32 : decode cX4_exponent 32 = .ok (.iconst 0, 1) := by decide +kernel
set_option maxRecDepth 100000 in
theorem dX4_exponent_33 : decode cX4_exponent 33 = .ok (.invokevirtual 44, 3) := by decide +kernel
set_option maxRecDepth 100000 in
theorem dX4_exponent_36 : decode cX4_exponent 36 = .ok (.invokestatic 79, 3) := by decide +kernel
set_option maxRecDepth 100000 in
theorem dX4_exponent_39 : decode cX4_exponent 39 = .ok (.ifCond .eq 43, 3) := by decide +kernel
set_option maxRecDepth 100000 in
theorem dX4_exponent_42 : decode cX4_exponent 42 = .ok (.iload_n 3, 1) := by decide +kernel
set_option maxRecDepth 100000 in
theorem dX4_exponent_43 : decode cX4_exponent 43 = .ok (.bipush 100, 2) := by decide +kernel
set_option maxRecDepth 100000 in
theorem dX4_exponent_45 : decode cX4_exponent 45 = .ok (.if_icmp .ge 19, 3) := by decide +kernel
set_option maxRecDepth 100000 in
theorem dX4_exponent_48 : decode cX4_exponent 48 = .ok (.bipush 10, 2) := by decide +kernel
set_option maxRecDepth 100000 in
theorem dX4_exponent_50 : decode cX4_exponent 50 = .ok (.iload_n 3, 1) := by decide +kernel
set_option maxRecDepth 100000 in
theorem dX4_exponent_51 : decode cX4_exponent 51 = .ok (.imul, 1) := by decide +kernel
set_option maxRecDepth 100000 in
theorem dX4_exponent_52 : decode cX4_exponent 52 = .ok (.aload_n 0, 1) := by decide +kernel
set_option maxRecDepth 100000 in
theorem dX4_exponent_53 : decode cX4_exponent 53 = .ok (.iconst 0, 1) := by decide +kernel
set_option maxRecDepth 100000 in
theorem dX4_exponent_54 : decode cX4_exponent 54 = .ok (.invokevirtual 44, 3) := by decide +kernel
set_option maxRecDepth 100000 in
theorem dX4_exponent_57 : decode cX4_exponent 57 = .ok (.iadd, 1) := by decide +kernel
set_option maxRecDepth 100000 in
theorem dX4_exponent_58 : decode cX4_exponent 58 = .ok (.bipush 48, 2) := by decide +kernel
set_option maxRecDepth 100000 in
theorem dX4_exponent_60 : decode cX4_exponent 60 = .ok (.isub, 1) := by decide +kernel
set_option maxRecDepth 100000 in
theorem dX4_exponent_61 : decode cX4_exponent 61 = .ok (.goto 4, 3) := by decide +kernel
set_option maxRecDepth 100000 in
theorem dX4_exponent_64 : decode cX4_exponent 64 = .ok (.iload_n 3, 1) := by decide +kernel
set_option maxRecDepth 100000 in
theorem dX4_exponent_65 : decode cX4_exponent 65 = .ok (.istore_n 3, 1) := by decide +kernel
set_option maxRecDepth 100000 in
theorem dX4_exponent_66 : decode cX4_exponent 66 = .ok (.iinc 4 1, 3) := by decide +kernel
set_option maxRecDepth 100000 in
theorem dX4_exponent_69 : decode cX4_exponent 69 = .ok (.aload_n 0, 1) := by decide +kernel
set_option maxRecDepth 100000 in
theorem dX4_exponent_70 : decode cX4_exponent 70 = .ok (.dup, 1) := by decide +kernel
set_option maxRecDepth 100000 in
theorem dX4_exponent_71 : decode cX4_exponent 71 = .ok (.getfield 36, 3) := by decide +kernel
set_option maxRecDepth 100000 in
theorem dX4_exponent_74 : decode cX4_exponent 74 = .ok (.iconst 1, 1) := by decide +kernel
set_option maxRecDepth 100000 in
theorem dX4_exponent_75 : decode cX4_exponent 75 = .ok (.iadd, 1) := by decide +kernel
set_option maxRecDepth 100000 in
theorem dX4_exponent_76 : decode cX4_exponent 76 = .ok (.putfield 36, 3) := by decide +kernel
set_option maxRecDepth 100000 in
theorem dX4_exponent_79 : decode cX4_exponent 79 = .ok (.goto (-48), 3) := by decide +kernel
set_option maxRecDepth 100000 in
theorem dX4_exponent_82 : decode cX4_exponent 82 = .ok (.iload 4, 2) := by decide +kernel
set_option maxRecDepth 100000 in
theorem dX4_exponent_84 : decode cX4_exponent 84 = .ok (.iconst 2, 1) := by decide +kernel
set_option maxRecDepth 100000 in
theorem dX4_exponent_85 : decode cX4_exponent 85 = .ok (.if_icmp .le 8, 3) := by decide +kernel
set_option maxRecDepth 100000 in
theorem dX4_exponent_88 : decode cX4_exponent 88 = .ok (.bipush 100, 2) := by decide +kernel
set_option maxRecDepth 100000 in
theorem dX4_exponent_90 : decode cX4_exponent 90 = .ok (.goto 4, 3) := by decide +kernel
set_option maxRecDepth 100000 in
theorem dX4_exponent_93 : decode cX4_exponent 93 = .ok (.iload_n 3, 1) := by decide +kernel
set_option maxRecDepth 100000 in
theorem dX4_exponent_94 : decode cX4_exponent 94 = .ok (.istore 5, 2) := by decide +kernel
set_option maxRecDepth 100000 in
theorem dX4_exponent_96 : decode cX4_exponent 96 = .ok (.iload_n 2, 1) := by decide +kernel
set_option maxRecDepth 100000 in
theorem dX4_exponent_97 : decode cX4_exponent 97 = .ok (.ifCond .eq 9, 3) := by decide +kernel
set_option maxRecDepth 100000 in
theorem dX4_exponent_100 : decode cX4_exponent 100 = .ok (.iload 5, 2) := by decide +kernel
set_option maxRecDepth 100000 in
theorem dX4_exponent_102 : decode cX4_exponent 102 = .ok (.ineg, 1) := by decide +kernel
set_option maxRecDepth 100000 in
theorem dX4_exponent_103 : decode cX4_exponent 103 = .ok (.goto 5, 3) := by decide +kernel
set_option maxRecDepth 100000 in
theorem dX4_exponent_106 : decode cX4_exponent 106 = .ok (.iload 5, 2) := by decide +kernel
set_option maxRecDepth 100000 in
theorem dX4_exponent_108 : decode cX4_exponent 108 = .ok (.ireturn, 1) := by decide +kernel
def lX4_exponent_31 (G : xG) (fr lo : Nat) (x0 : Nat) (x2 : Int32) (x3 : Int32) (x4 : Int32) (h : xH) (Q : Outcome → xH → Prop) : Prop := xP G YX4_exponent fr lo 31 [(0, rv x0), (2, .int x2), (3, .int x3), (4, .int x4)] [] h Q
set_option maxRecDepth 100000 in
def bX4_exponent_108 (G : xG) (fr lo : Nat) (s0 : Int32) (h : xH) (Q : Outcome → xH → Prop) : Prop := Q (.returned (some (.int s0))) h
set_option maxRecDepth 100000 in
theorem uX4_exponent_108 {G : xG} {fr lo : Nat} {s0 : Int32} {h : xH} {Q : Outcome → xH → Prop} (hq : bX4_exponent_108 G fr lo s0 h Q) : xP G YX4_exponent fr lo 108 [] [.int s0] h Q := by
  unfold bX4_exponent_108 at hq
  exact x_iret rfl rfl dX4_exponent_108 hq
set_option maxRecDepth 100000 in
def bX4_exponent_94 (G : xG) (fr lo : Nat) (x2 : Int32) (s0 : Int32) (h : xH) (Q : Outcome → xH → Prop) : Prop := ((x2 = 0 → bX4_exponent_108 G fr lo s0 h Q) ∧ (¬ x2 = 0 → bX4_exponent_108 G fr lo (-s0) h Q))
set_option maxRecDepth 100000 in
theorem uX4_exponent_94 {G : xG} {fr lo : Nat} {x2 : Int32} {s0 : Int32} {h : xH} {Q : Outcome → xH → Prop} (hq : bX4_exponent_94 G fr lo x2 s0 h Q) : xP G YX4_exponent fr lo 94 [(2, .int x2)] [.int s0] h Q := by
  unfold bX4_exponent_94 at hq
  refine x_istore (lv' := [(5, .int s0), (2, .int x2)]) dX4_exponent_94 (by decide) rfl ?_
  refine x_iload_n 1 dX4_exponent_96 rfl ?_
  refine x_if_eq (tgt := 106) dX4_exponent_97 (by decide) (fun c1 => ?_) (fun c1 => ?_)
  · replace hq := hq.1 c1
    refine x_iload 0 dX4_exponent_106 rfl ?_
    refine xP.pick (lv' := []) [] rfl ?_
    exact uX4_exponent_108 hq
  · replace hq := hq.2 c1
    refine x_iload 0 dX4_exponent_100 rfl ?_
    refine x_ineg dX4_exponent_102 ?_
    refine x_goto (tgt := 108) dX4_exponent_103 (by decide) ?_
    refine xP.pick (lv' := []) [] rfl ?_
    exact uX4_exponent_108 hq
set_option maxRecDepth 100000 in
def bX4_exponent_65 (G : xG) (fr lo : Nat) (x0 : Nat) (x2 : Int32) (x4 : Int32) (s0 : Int32) (h : xH) (Q : Outcome → xH → Prop) : Prop := tg h x0 = 5 ∧ (∀ h2 : xH, h2 = sI h x0 1029 ((fI h x0 1029) + 1) → lX4_exponent_31 G fr lo x0 x2 s0 (x4 + 1) h2 Q)
set_option maxRecDepth 100000 in
theorem uX4_exponent_65 {G : xG} {fr lo : Nat} {x0 : Nat} {x2 : Int32} {x4 : Int32} {s0 : Int32} {h : xH} {Q : Outcome → xH → Prop} (hq : bX4_exponent_65 G fr lo x0 x2 x4 s0 h Q) : xP G YX4_exponent fr lo 65 [(0, rv x0), (2, .int x2), (4, .int x4)] [.int s0] h Q := by
  unfold bX4_exponent_65 at hq
  refine x_istore_n (lv' := [(3, .int s0), (0, rv x0), (2, .int x2), (4, .int x4)]) dX4_exponent_65 (by decide) rfl ?_
  refine x_iinc (lv' := [(4, .int (x4 + 1)), (3, .int s0), (0, rv x0), (2, .int x2)]) 3 dX4_exponent_66 rfl (by decide) rfl ?_
  refine x_aload_n 2 dX4_exponent_69 rfl ?_
  refine x_dup dX4_exponent_70 (rv_cat _) ?_
  obtain ⟨g1, hq⟩ := hq
  refine x_get (v := .int (fI h x0 1029)) fdX4_36 dX4_exponent_71 g1 rfl ?_
  refine x_iconst (v := 1) dX4_exponent_74 (by decide) ?_
  refine x_iadd dX4_exponent_75 ?_
  obtain ⟨h2, e3⟩ : ∃ y, y = sI h x0 1029 ((fI h x0 1029) + 1) := ⟨_, rfl⟩
  replace hq := hq h2 e3
  refine x_putI fdX4_36 xty_I1 dX4_exponent_76 g1 (Or.inl (by rw [g1]; rfl)) xnI rfl e3 ?_
  refine x_goto (tgt := 31) dX4_exponent_79 (by decide) ?_
  refine xP.pick (lv' := [(0, rv x0), (2, .int x2), (3, .int s0), (4, .int (x4 + 1))]) [2, 3, 1, 0] rfl ?_
  exact hq
set_option maxRecDepth 100000 in
def bX4_exponent_31 (G : xG) (fr lo : Nat) (x0 : Nat) (x2 : Int32) (x3 : Int32) (x4 : Int32) (h : xH) (Q : Outcome → xH → Prop) : Prop := tg h x0 = 5 ∧ 1 ≤ fr ∧ 13 ≤ lo ∧ xRi G YX4_here (fr - 1) (lo - 13) [rv x0, .int 0] h (fun x5 h4 => xext h h4 → 1 ≤ fr ∧ 12 ≤ lo ∧ xRi G YX0_isDigit (fr - 1) (lo - 12) [.int x5] h4 (fun x10 h9 => xext h4 h9 → ((x10 = 0 → ((x4 ≤ 2 → bX4_exponent_94 G fr lo x2 x3 h9 Q) ∧ (¬ x4 ≤ 2 → bX4_exponent_94 G fr lo x2 100 h9 Q))) ∧ (¬ x10 = 0 → ((100 ≤ x3 → bX4_exponent_65 G fr lo x0 x2 x4 x3 h9 Q) ∧ (¬ 100 ≤ x3 → 1 ≤ fr ∧ 14 ≤ lo ∧ xRi G YX4_here (fr - 1) (lo - 14) [rv x0, .int 0] h9 (fun x20 h19 => xext h9 h19 → bX4_exponent_65 G fr lo x0 x2 x4 (((10 * x3) + x20) - 48) h19 Q) (fun r h2 => Q (.threw r) h2)))))) (fun r h2 => Q (.threw r) h2)) (fun r h2 => Q (.threw r) h2)
set_option maxRecDepth 100000 in
theorem uX4_exponent_31 {G : xG} {fr lo : Nat} {x0 : Nat} {x2 : Int32} {x3 : Int32} {x4 : Int32} {h : xH} {Q : Outcome → xH → Prop} (hq : bX4_exponent_31 G fr lo x0 x2 x3 x4 h Q) : xP G YX4_exponent fr lo 31 [(0, rv x0), (2, .int x2), (3, .int x3), (4, .int x4)] [] h Q := by
  unfold bX4_exponent_31 at hq
  refine x_aload_n 0 dX4_exponent_31 rfl ?_
  refine x_iconst (v := 0) dX4_exponent_32 (by decide) ?_
  obtain ⟨g1, hq⟩ := hq
  obtain ⟨g2, g3, hq⟩ := hq
  refine x_callV (Yc := YX4_here) (as := [.int 0]) (st := []) q1580 mvX4_here g1 rfl dX4_exponent_33 (xle (xal1 (rv_cat _) (xal1 rfl xal0)) (by decide)) (xfr g2) (xlo xsw0 (by decide) g3) (xKi hq (fun x5 h4 hq e6 => ?_) (fun _ _ q _ => q))
  replace hq := hq e6
  obtain ⟨g7, g8, hq⟩ := hq
  refine x_callSN (Yc := YX0_isDigit) (as := [.int x5]) (st := []) (List.mem_filter.mpr ⟨q1635, rfl⟩) msX0_isDigit rfl dX4_exponent_36 (xle (xal1 rfl xal0) (by decide)) (xfr g7) (xlo xsw0 (by decide) g8) (xKi hq (fun x10 h9 hq e11 => ?_) (fun _ _ q _ => q))
  replace hq := hq e11
  refine x_if_eq (tgt := 82) dX4_exponent_39 (by decide) (fun c12 => ?_) (fun c12 => ?_)
  · replace hq := hq.1 c12
    refine x_iload 3 dX4_exponent_82 rfl ?_
    refine x_iconst (v := 2) dX4_exponent_84 (by decide) ?_
    refine x_icmp_le (tgt := 93) dX4_exponent_85 (by decide) (fun c13 => ?_) (fun c13 => ?_)
    · replace hq := hq.1 c13
      refine x_iload_n 2 dX4_exponent_93 rfl ?_
      refine xP.pick (lv' := [(2, .int x2)]) [1] rfl ?_
      exact uX4_exponent_94 hq
    · replace hq := hq.2 c13
      refine x_bipush (v := 100) dX4_exponent_88 (by decide) ?_
      refine x_goto (tgt := 94) dX4_exponent_90 (by decide) ?_
      refine xP.pick (lv' := [(2, .int x2)]) [1] rfl ?_
      exact uX4_exponent_94 hq
  · replace hq := hq.2 c12
    refine x_iload_n 2 dX4_exponent_42 rfl ?_
    refine x_bipush (v := 100) dX4_exponent_43 (by decide) ?_
    refine x_icmp_ge (tgt := 64) dX4_exponent_45 (by decide) (fun c14 => ?_) (fun c14 => ?_)
    · replace hq := hq.1 c14
      refine x_iload_n 2 dX4_exponent_64 rfl ?_
      refine xP.pick (lv' := [(0, rv x0), (2, .int x2), (4, .int x4)]) [0, 1, 3] rfl ?_
      exact uX4_exponent_65 hq
    · replace hq := hq.2 c14
      refine x_bipush (v := 10) dX4_exponent_48 (by decide) ?_
      refine x_iload_n 2 dX4_exponent_50 rfl ?_
      refine x_imul dX4_exponent_51 ?_
      refine x_aload_n 0 dX4_exponent_52 rfl ?_
      refine x_iconst (v := 0) dX4_exponent_53 (by decide) ?_
      have t15 : tg h4 x0 = 5 := e6.tg g1 (by decide)
      have t16 : tg h9 x0 = 5 := e11.tg t15 (by decide)
      obtain ⟨g17, g18, hq⟩ := hq
      refine x_callV (Yc := YX4_here) (as := [.int 0]) (st := [.int (10 * x3)]) q1580 mvX4_here t16 rfl dX4_exponent_54 (xle (xal1 (rv_cat _) (xal1 rfl xal0)) (by decide)) (xfr g17) (xlo (xsw1 rfl xsw0) (by decide) g18) (xKi hq (fun x20 h19 hq e21 => ?_) (fun _ _ q _ => q))
      replace hq := hq e21
      refine x_iadd dX4_exponent_57 ?_
      refine x_bipush (v := 48) dX4_exponent_58 (by decide) ?_
      refine x_isub dX4_exponent_60 ?_
      refine x_goto (tgt := 65) dX4_exponent_61 (by decide) ?_
      refine xP.pick (lv' := [(0, rv x0), (2, .int x2), (4, .int x4)]) [0, 1, 3] rfl ?_
      exact uX4_exponent_65 hq
set_option maxRecDepth 100000 in
def bX4_exponent_15 (G : xG) (fr lo : Nat) (x0 : Nat) (x1 : Int32) (s0 : Int32) (h : xH) (Q : Outcome → xH → Prop) : Prop := tg h x0 = 5 ∧ (∀ h2 : xH, h2 = sI h x0 1029 ((fI h x0 1029) + x1) → lX4_exponent_31 G fr lo x0 s0 0 0 h2 Q)
set_option maxRecDepth 100000 in
theorem uX4_exponent_15 {G : xG} {fr lo : Nat} {x0 : Nat} {x1 : Int32} {s0 : Int32} {h : xH} {Q : Outcome → xH → Prop} (hq : bX4_exponent_15 G fr lo x0 x1 s0 h Q) : xP G YX4_exponent fr lo 15 [(0, rv x0), (1, .int x1)] [.int s0] h Q := by
  unfold bX4_exponent_15 at hq
  refine x_istore_n (lv' := [(2, .int s0), (0, rv x0), (1, .int x1)]) dX4_exponent_15 (by decide) rfl ?_
  refine x_aload_n 1 dX4_exponent_16 rfl ?_
  refine x_dup dX4_exponent_17 (rv_cat _) ?_
  obtain ⟨g1, hq⟩ := hq
  refine x_get (v := .int (fI h x0 1029)) fdX4_36 dX4_exponent_18 g1 rfl ?_
  refine x_iload_n 2 dX4_exponent_21 rfl ?_
  refine x_iadd dX4_exponent_22 ?_
  obtain ⟨h2, e3⟩ : ∃ y, y = sI h x0 1029 ((fI h x0 1029) + x1) := ⟨_, rfl⟩
  replace hq := hq h2 e3
  refine x_putI fdX4_36 xty_I1 dX4_exponent_23 g1 (Or.inl (by rw [g1]; rfl)) xnI rfl e3 ?_
  refine x_iconst (v := 0) dX4_exponent_26 (by decide) ?_
  refine x_istore_n (lv' := [(3, .int 0), (2, .int s0), (0, rv x0), (1, .int x1)]) dX4_exponent_27 (by decide) rfl ?_
  refine x_iconst (v := 0) dX4_exponent_28 (by decide) ?_
  refine x_istore (lv' := [(4, .int 0), (3, .int 0), (2, .int s0), (0, rv x0), (1, .int x1)]) dX4_exponent_29 (by decide) rfl ?_
  refine xP.pick (lv' := [(0, rv x0), (2, .int s0), (3, .int 0), (4, .int 0)]) [3, 2, 1, 0] rfl ?_
  exact hq
set_option maxRecDepth 100000 in
def bX4_exponent (G : xG) (fr lo : Nat) (x0 : Nat) (x1 : Int32) (h : xH) (Q : Outcome → xH → Prop) : Prop := tg h x0 = 5 ∧ 1 ≤ fr ∧ 13 ≤ lo ∧ xRi G YX4_here (fr - 1) (lo - 13) [rv x0, .int 1] h (fun x5 h4 => xext h h4 → ((¬ x5 = 45 → bX4_exponent_15 G fr lo x0 x1 0 h4 Q) ∧ (x5 = 45 → bX4_exponent_15 G fr lo x0 x1 1 h4 Q))) (fun r h2 => Q (.threw r) h2)
set_option maxRecDepth 100000 in
theorem uX4_exponent {G : xG} {fr lo : Nat} {x0 : Nat} {x1 : Int32} {h : xH} {Q : Outcome → xH → Prop} (hq : bX4_exponent G fr lo x0 x1 h Q) : xP G YX4_exponent fr lo 0 [(0, rv x0), (1, .int x1)] [] h Q := by
  unfold bX4_exponent at hq
  refine x_aload_n 0 dX4_exponent_0 rfl ?_
  refine x_iconst (v := 1) dX4_exponent_1 (by decide) ?_
  obtain ⟨g1, hq⟩ := hq
  obtain ⟨g2, g3, hq⟩ := hq
  refine x_callV (Yc := YX4_here) (as := [.int 1]) (st := []) q1580 mvX4_here g1 rfl dX4_exponent_2 (xle (xal1 (rv_cat _) (xal1 rfl xal0)) (by decide)) (xfr g2) (xlo xsw0 (by decide) g3) (xKi hq (fun x5 h4 hq e6 => ?_) (fun _ _ q _ => q))
  replace hq := hq e6
  refine x_bipush (v := 45) dX4_exponent_5 (by decide) ?_
  refine x_icmp_ne (tgt := 14) dX4_exponent_7 (by decide) (fun c7 => ?_) (fun c7 => ?_)
  · replace hq := hq.1 c7
    refine x_iconst (v := 0) dX4_exponent_14 (by decide) ?_
    exact uX4_exponent_15 hq
  · replace hq := hq.2 c7
    refine x_iconst (v := 1) dX4_exponent_10 (by decide) ?_
    refine x_goto (tgt := 15) dX4_exponent_11 (by decide) ?_
    exact uX4_exponent_15 hq
theorem rX4_exponent {G : xG} {fr lo : Nat} {x0 : Nat} {x1 : Int32} {h : xH} {Q : Outcome → xH → Prop} (hq : bX4_exponent G fr lo x0 x1 h Q) : xR G YX4_exponent fr lo [rv x0, .int x1] h Q := by
  show xP _ _ _ _ _ (lv_args 0 _) _ _ _
  rw [show lv_args 0 [rv x0, .int x1] = [(0, rv x0), (1, .int x1)] from (xla1 (rv_cat _) (xla1 rfl xla0))]
  exact uX4_exponent hq
set_option maxRecDepth 100000 in
theorem dX4_string_0 : decode cX4_string 0 = .ok (.aload_n 0, 1) := by decide +kernel
set_option maxRecDepth 100000 in
theorem dX4_string_1 : decode cX4_string 1 = .ok (.getfield 36, 3) := by decide +kernel
set_option maxRecDepth 100000 in
theorem dX4_string_4 : decode cX4_string 4 = .ok (.istore_n 1, 1) := by decide +kernel
set_option maxRecDepth 100000 in
theorem dX4_string_5 : decode cX4_string 5 = .ok (.aload_n 0, 1) := by decide +kernel
set_option maxRecDepth 100000 in
theorem dX4_string_6 : decode cX4_string 6 = .ok (.getfield 14, 3) := by decide +kernel
set_option maxRecDepth 100000 in
theorem dX4_string_9 : decode cX4_string 9 = .ok (.iconst 0, 1) := by decide +kernel
set_option maxRecDepth 100000 in
theorem dX4_string_10 : decode cX4_string 10 = .ok (.invokevirtual 91, 3) := by decide +kernel
set_option maxRecDepth 100000 in
theorem dX4_string_13 : decode cX4_string 13 = .ok (.aload_n 0, 1) := by decide +kernel
set_option maxRecDepth 100000 in
theorem dX4_string_14 : decode cX4_string 14 = .ok (.dup, 1) := by decide +kernel
set_option maxRecDepth 100000 in
theorem dX4_string_15 : decode cX4_string 15 = .ok (.getfield 36, 3) := by decide +kernel
set_option maxRecDepth 100000 in
theorem dX4_string_18 : decode cX4_string 18 = .ok (.iconst 1, 1) := by decide +kernel
set_option maxRecDepth 100000 in
theorem dX4_string_19 : decode cX4_string 19 = .ok (.iadd, 1) := by decide +kernel
set_option maxRecDepth 100000 in
theorem dX4_string_20 : decode cX4_string 20 = .ok (.putfield 36, 3) := by decide +kernel
set_option maxRecDepth 100000 in
theorem dX4_string_23 : decode cX4_string 23 = .ok (.aload_n 0, 1) := by decide +kernel
set_option maxRecDepth 100000 in
theorem dX4_string_24 : decode cX4_string 24 = .ok (.iconst 0, 1) := by decide +kernel
set_option maxRecDepth 100000 in
theorem dX4_string_25 : decode cX4_string 25 = .ok (.invokevirtual 44, 3) := by decide +kernel
set_option maxRecDepth 100000 in
theorem dX4_string_28 : decode cX4_string 28 = .ok (.bipush 39, 2) := by decide +kernel
set_option maxRecDepth 100000 in
theorem dX4_string_30 : decode cX4_string 30 = .ok (.if_icmp .ne 13, 3) := by decide +kernel
set_option maxRecDepth 100000 in
theorem dX4_string_33 : decode cX4_string 33 = .ok (.aload_n 0, 1) := by decide +kernel
set_option maxRecDepth 100000 in
theorem dX4_string_34 : decode cX4_string 34 = .ok (.iconst 1, 1) := by decide +kernel
set_option maxRecDepth 100000 in
theorem dX4_string_35 : decode cX4_string 35 = .ok (.invokevirtual 44, 3) := by decide +kernel
set_option maxRecDepth 100000 in
theorem dX4_string_38 : decode cX4_string 38 = .ok (.bipush 39, 2) := by decide +kernel
set_option maxRecDepth 100000 in
theorem dX4_string_40 : decode cX4_string 40 = .ok (.if_icmp .ne 93, 3) := by decide +kernel
set_option maxRecDepth 100000 in
theorem dX4_string_43 : decode cX4_string 43 = .ok (.aload_n 0, 1) := by decide +kernel
set_option maxRecDepth 100000 in
theorem dX4_string_44 : decode cX4_string 44 = .ok (.getfield 36, 3) := by decide +kernel
set_option maxRecDepth 100000 in
theorem dX4_string_47 : decode cX4_string 47 = .ok (.aload_n 0, 1) := by decide +kernel
set_option maxRecDepth 100000 in
theorem dX4_string_48 : decode cX4_string 48 = .ok (.getfield 32, 3) := by decide +kernel
set_option maxRecDepth 100000 in
theorem dX4_string_51 : decode cX4_string 51 = .ok (.if_icmp .ge 35, 3) := by decide +kernel
set_option maxRecDepth 100000 in
theorem dX4_string_54 : decode cX4_string 54 = .ok (.aload_n 0, 1) := by decide +kernel
set_option maxRecDepth 100000 in
theorem dX4_string_55 : decode cX4_string 55 = .ok (.iconst 0, 1) := by decide +kernel
set_option maxRecDepth 100000 in
theorem dX4_string_56 : decode cX4_string 56 = .ok (.invokevirtual 44, 3) := by decide +kernel
set_option maxRecDepth 100000 in
theorem dX4_string_59 : decode cX4_string 59 = .ok (.bipush 32, 2) := by decide +kernel
set_option maxRecDepth 100000 in
theorem dX4_string_61 : decode cX4_string 61 = .ok (.if_icmp .lt 25, 3) := by decide +kernel
set_option maxRecDepth 100000 in
theorem dX4_string_64 : decode cX4_string 64 = .ok (.aload_n 0, 1) := by decide +kernel
set_option maxRecDepth 100000 in
theorem dX4_string_65 : decode cX4_string 65 = .ok (.iconst 0, 1) := by decide +kernel
set_option maxRecDepth 100000 in
theorem dX4_string_66 : decode cX4_string 66 = .ok (.invokevirtual 44, 3) := by decide +kernel
set_option maxRecDepth 100000 in
theorem dX4_string_69 : decode cX4_string 69 = .ok (.bipush 126, 2) := by decide +kernel
set_option maxRecDepth 100000 in
theorem dX4_string_71 : decode cX4_string 71 = .ok (.if_icmp .gt 15, 3) := by decide +kernel
set_option maxRecDepth 100000 in
theorem dX4_string_74 : decode cX4_string 74 = .ok (.aload_n 0, 1) := by decide +kernel
set_option maxRecDepth 100000 in
theorem dX4_string_75 : decode cX4_string 75 = .ok (.getfield 14, 3) := by decide +kernel
set_option maxRecDepth 100000 in
theorem dX4_string_78 : decode cX4_string 78 = .ok (.invokevirtual 140, 3) := by decide +kernel
set_option maxRecDepth 100000 in
theorem dX4_string_81 : decode cX4_string 81 = .ok (.bipush 80, 2) := by decide +kernel
set_option maxRecDepth 100000 in
theorem dX4_string_83 : decode cX4_string 83 = .ok (.if_icmp .ne 9, 3) := by decide +kernel
set_option maxRecDepth 100000 in
theorem dX4_string_86 : decode cX4_string 86 = .ok (.aload_n 0, 1) := by decide +kernel
set_option maxRecDepth 100000 in
theorem dX4_string_87 : decode cX4_string 87 = .ok (.iload_n 1, 1) := by decide +kernel
set_option maxRecDepth 100000 in
theorem dX4_string_88 : decode cX4_string 88 = .ok (.invokevirtual 51, 3) := by decide +kernel
set_option maxRecDepth 100000 in
theorem dX4_string_91 : decode cX4_string 91 = .ok (.athrow, 1) := by decide +kernel
set_option maxRecDepth 100000 in
theorem dX4_string_92 : decode cX4_string 92 = .ok (.aload_n 0, 1) := by decide +kernel
set_option maxRecDepth 100000 in
theorem dX4_string_93 : decode cX4_string 93 = .ok (.getfield 14, 3) := by decide +kernel
set_option maxRecDepth 100000 in
theorem dX4_string_96 : decode cX4_string 96 = .ok (.aload_n 0, 1) := by decide +kernel
set_option maxRecDepth 100000 in
theorem dX4_string_97 : decode cX4_string 97 = .ok (.iconst 0, 1) := by decide +kernel
set_option maxRecDepth 100000 in
theorem dX4_string_98 : decode cX4_string 98 = .ok (.invokevirtual 44, 3) := by decide +kernel
set_option maxRecDepth 100000 in
theorem dX4_string_101 : decode cX4_string 101 = .ok (.i2c, 1) := by decide +kernel
set_option maxRecDepth 100000 in
theorem dX4_string_102 : decode cX4_string 102 = .ok (.invokevirtual 97, 3) := by decide +kernel
set_option maxRecDepth 100000 in
theorem dX4_string_105 : decode cX4_string 105 = .ok (.pop, 1) := by decide +kernel
set_option maxRecDepth 100000 in
theorem dX4_string_106 : decode cX4_string 106 = .ok (.aload_n 0, 1) := by decide +kernel
set_option maxRecDepth 100000 in
theorem dX4_string_107 : decode cX4_string 107 = .ok (.dup, 1) := by decide +kernel
set_option maxRecDepth 100000 in
theorem dX4_string_108 : decode cX4_string 108 = .ok (.getfield 36, 3) := by decide +kernel
set_option maxRecDepth 100000 in
theorem dX4_string_111 : decode cX4_string 111 = .ok (.aload_n 0, 1) := by decide +kernel
set_option maxRecDepth 100000 in
theorem dX4_string_112 : decode cX4_string 112 = .ok (.iconst 0, 1) := by decide +kernel
set_option maxRecDepth 100000 in
theorem dX4_string_113 : decode cX4_string 113 = .ok (.invokevirtual 44, 3) := by decide +kernel
set_option maxRecDepth 100000 in
theorem dX4_string_116 : decode cX4_string 116 = .ok (.bipush 39, 2) := by decide +kernel
set_option maxRecDepth 100000 in
theorem dX4_string_118 : decode cX4_string 118 = .ok (.if_icmp .ne 7, 3) := by decide +kernel
set_option maxRecDepth 100000 in
theorem dX4_string_121 : decode cX4_string 121 = .ok (.iconst 2, 1) := by decide +kernel
set_option maxRecDepth 100000 in
theorem dX4_string_122 : decode cX4_string 122 = .ok (.goto 4, 3) := by decide +kernel
set_option maxRecDepth 100000 in
theorem dX4_string_125 : decode cX4_string 125 = .ok (.iconst 1, 1) := by decide +kernel
set_option maxRecDepth 100000 in
theorem dX4_string_126 : decode cX4_string 126 = .ok (.iadd, 1) := by decide +kernel
set_option maxRecDepth 100000 in
theorem dX4_string_127 : decode cX4_string 127 = .ok (.putfield 36, 3) := by decide +kernel
set_option maxRecDepth 100000 in
theorem dX4_string_130 : decode cX4_string 130 = .ok (.goto (-107), 3) := by decide +kernel
set_option maxRecDepth 100000 in
theorem dX4_string_133 : decode cX4_string 133 = .ok (.aload_n 0, 1) := by decide +kernel
set_option maxRecDepth 100000 in
theorem dX4_string_134 : decode cX4_string 134 = .ok (.dup, 1) := by decide +kernel
set_option maxRecDepth 100000 in
theorem dX4_string_135 : decode cX4_string 135 = .ok (.getfield 36, 3) := by decide +kernel
set_option maxRecDepth 100000 in
theorem dX4_string_138 : decode cX4_string 138 = .ok (.iconst 1, 1) := by decide +kernel
set_option maxRecDepth 100000 in
theorem dX4_string_139 : decode cX4_string 139 = .ok (.iadd, 1) := by decide +kernel
set_option maxRecDepth 100000 in
theorem dX4_string_140 : decode cX4_string 140 = .ok (.putfield 36, 3) := by decide +kernel
set_option maxRecDepth 100000 in
theorem dX4_string_143 : decode cX4_string 143 = .ok (.aload_n 0, 1) := by decide +kernel
set_option maxRecDepth 100000 in
theorem dX4_string_144 : decode cX4_string 144 = .ok (.getfield 14, 3) := by decide +kernel
set_option maxRecDepth 100000 in
theorem dX4_string_147 : decode cX4_string 147 = .ok (.invokevirtual 140, 3) := by decide +kernel
set_option maxRecDepth 100000 in
theorem dX4_string_150 : decode cX4_string 150 = .ok (.ifCond .ne 9, 3) := by decide +kernel
set_option maxRecDepth 100000 in
theorem dX4_string_153 : decode cX4_string 153 = .ok (.aload_n 0, 1) := by decide +kernel
set_option maxRecDepth 100000 in
theorem dX4_string_154 : decode cX4_string 154 = .ok (.iload_n 1, 1) := by decide +kernel
set_option maxRecDepth 100000 in
theorem dX4_string_155 : decode cX4_string 155 = .ok (.invokevirtual 51, 3) := by decide +kernel
set_option maxRecDepth 100000 in
theorem dX4_string_158 : decode cX4_string 158 = .ok (.athrow, 1) := by decide +kernel
set_option maxRecDepth 100000 in
theorem dX4_string_159 : decode cX4_string 159 = .ok (.new 58, 3) := by decide +kernel
set_option maxRecDepth 100000 in
theorem dX4_string_162 : decode cX4_string 162 = .ok (.dup, 1) := by decide +kernel
set_option maxRecDepth 100000 in
theorem dX4_string_163 : decode cX4_string 163 = .ok (.getstatic 144, 3) := by decide +kernel
set_option maxRecDepth 100000 in
theorem dX4_string_166 : decode cX4_string 166 = .ok (.aload_n 0, 1) := by decide +kernel
set_option maxRecDepth 100000 in
theorem dX4_string_167 : decode cX4_string 167 = .ok (.getfield 14, 3) := by decide +kernel
set_option maxRecDepth 100000 in
theorem dX4_string_170 : decode cX4_string 170 = .ok (.invokevirtual 101, 3) := by decide +kernel
set_option maxRecDepth 100000 in
theorem dX4_string_173 : decode cX4_string 173 = .ok (.iload_n 1, 1) := by decide +kernel
set_option maxRecDepth 100000 in
theorem dX4_string_174 : decode cX4_string 174 = .ok (.iconst 0, 1) := by decide +kernel
set_option maxRecDepth 100000 in
theorem dX4_string_175 : decode cX4_string 175 = .ok (.dconst 0, 1) := by decide +kernel
set_option maxRecDepth 100000 in
theorem dX4_string_176 : decode cX4_string 176 = .ok (.invokespecial 68, 3) := by decide +kernel
set_option maxRecDepth 100000 in
theorem dX4_string_179 : decode cX4_string 179 = .ok (.areturn, 1) := by decide +kernel
def lX4_string_23 (G : xG) (fr lo : Nat) (x0 : Nat) (x1 : Int32) (h : xH) (Q : Outcome → xH → Prop) : Prop := xP G YX4_string fr lo 23 [(0, rv x0), (1, .int x1)] [] h Q
set_option maxRecDepth 100000 in
def bX4_string_126 (G : xG) (fr lo : Nat) (x0 : Nat) (x1 : Int32) (s0 : Int32) (s1 : Int32) (s2 : Nat) (h : xH) (Q : Outcome → xH → Prop) : Prop := tg h s2 = 5 ∧ (∀ h2 : xH, h2 = sI h s2 1029 (s1 + s0) → lX4_string_23 G fr lo x0 x1 h2 Q)
set_option maxRecDepth 100000 in
theorem uX4_string_126 {G : xG} {fr lo : Nat} {x0 : Nat} {x1 : Int32} {s0 : Int32} {s1 : Int32} {s2 : Nat} {h : xH} {Q : Outcome → xH → Prop} (hq : bX4_string_126 G fr lo x0 x1 s0 s1 s2 h Q) : xP G YX4_string fr lo 126 [(0, rv x0), (1, .int x1)] [.int s0, .int s1, rv s2] h Q := by
  unfold bX4_string_126 at hq
  refine x_iadd dX4_string_126 ?_
  obtain ⟨g1, hq⟩ := hq
  obtain ⟨h2, e3⟩ : ∃ y, y = sI h s2 1029 (s1 + s0) := ⟨_, rfl⟩
  replace hq := hq h2 e3
  refine x_putI fdX4_36 xty_I1 dX4_string_127 g1 (Or.inl (by rw [g1]; rfl)) xnI rfl e3 ?_
  refine x_goto (tgt := 23) dX4_string_130 (by decide) ?_
  exact hq
set_option maxRecDepth 100000 in
def bX4_string_86 (G : xG) (fr lo : Nat) (x0 : Nat) (x1 : Int32) (h : xH) (Q : Outcome → xH → Prop) : Prop := tg h x0 = 5 ∧ 1 ≤ fr ∧ 13 ≤ lo ∧ xRr G YX4_wrong (fr - 1) (lo - 13) [rv x0, .int x1] h (fun x5 h4 => xext h h4 → (∃ r7, x5 = r7 + 1 ∧ Q (.threw r7) h4)) (fun r h2 => Q (.threw r) h2)
set_option maxRecDepth 100000 in
theorem uX4_string_86 {G : xG} {fr lo : Nat} {x0 : Nat} {x1 : Int32} {h : xH} {Q : Outcome → xH → Prop} (hq : bX4_string_86 G fr lo x0 x1 h Q) : xP G YX4_string fr lo 86 [(0, rv x0), (1, .int x1)] [] h Q := by
  unfold bX4_string_86 at hq
  refine x_aload_n 0 dX4_string_86 rfl ?_
  refine x_iload_n 1 dX4_string_87 rfl ?_
  obtain ⟨g1, hq⟩ := hq
  obtain ⟨g2, g3, hq⟩ := hq
  refine x_callV (Yc := YX4_wrong) (as := [.int x1]) (st := []) q1588 mvX4_wrong g1 rfl dX4_string_88 (xle (xal1 (rv_cat _) (xal1 rfl xal0)) (by decide)) (xfr g2) (xlo xsw0 (by decide) g3) (xKr hq (fun x5 h4 hq e6 => ?_) (fun _ _ q _ => q))
  replace hq := hq e6
  obtain ⟨r7, g8, hq⟩ := hq
  rw [g8]
  exact x_athrow dX4_string_91 hq
set_option maxRecDepth 100000 in
def bX4_string_43 (G : xG) (fr lo : Nat) (x0 : Nat) (x1 : Int32) (h : xH) (Q : Outcome → xH → Prop) : Prop := tg h x0 = 5 ∧ (((fI h x0 1028) ≤ (fI h x0 1029) → bX4_string_86 G fr lo x0 x1 h Q) ∧ (¬ (fI h x0 1028) ≤ (fI h x0 1029) → 1 ≤ fr ∧ 13 ≤ lo ∧ xRi G YX4_here (fr - 1) (lo - 13) [rv x0, .int 0] h (fun x6 h5 => xext h h5 → ((x6 < 32 → bX4_string_86 G fr lo x0 x1 h5 Q) ∧ (¬ x6 < 32 → 1 ≤ fr ∧ 13 ≤ lo ∧ xRi G YX4_here (fr - 1) (lo - 13) [rv x0, .int 0] h5 (fun x13 h12 => xext h5 h12 → ((126 < x13 → bX4_string_86 G fr lo x0 x1 h12 Q) ∧ (¬ 126 < x13 → tg h12 (fR h12 x0 1027) = 30 ∧ 1 ≤ fr ∧ 12 ≤ lo ∧ xRi G YJ4_length (fr - 1) (lo - 12) [rv (fR h12 x0 1027)] h12 (fun x21 h20 => xext h12 h20 → ((¬ x21 = 80 → 1 ≤ fr ∧ 14 ≤ lo ∧ xRi G YX4_here (fr - 1) (lo - 14) [rv x0, .int 0] h20 (fun x28 h27 => xext h20 h27 → tg h27 (fR h20 x0 1027) = 30 ∧ 1 ≤ fr ∧ 13 ≤ lo ∧ xRr G YJ4_append (fr - 1) (lo - 13) [rv (fR h20 x0 1027), .int ((Int32.toUInt32 x28 % 65536).toInt32)] h27 (fun x34 h33 => xext h27 h33 → 1 ≤ fr ∧ 15 ≤ lo ∧ xRi G YX4_here (fr - 1) (lo - 15) [rv x0, .int 0] h33 (fun x41 h40 => xext h33 h40 → ((¬ x41 = 39 → bX4_string_126 G fr lo x0 x1 1 (fI h33 x0 1029) x0 h40 Q) ∧ (x41 = 39 → bX4_string_126 G fr lo x0 x1 2 (fI h33 x0 1029) x0 h40 Q))) (fun r h2 => Q (.threw r) h2)) (fun r h2 => Q (.threw r) h2)) (fun r h2 => Q (.threw r) h2)) ∧ (x21 = 80 → bX4_string_86 G fr lo x0 x1 h20 Q))) (fun r h2 => Q (.threw r) h2)))) (fun r h2 => Q (.threw r) h2)))) (fun r h2 => Q (.threw r) h2)))
set_option maxRecDepth 100000 in
theorem uX4_string_43 {G : xG} {fr lo : Nat} {x0 : Nat} {x1 : Int32} {h : xH} {Q : Outcome → xH → Prop} (hq : bX4_string_43 G fr lo x0 x1 h Q) : xP G YX4_string fr lo 43 [(0, rv x0), (1, .int x1)] [] h Q := by
  unfold bX4_string_43 at hq
  refine x_aload_n 0 dX4_string_43 rfl ?_
  obtain ⟨g1, hq⟩ := hq
  refine x_get (v := .int (fI h x0 1029)) fdX4_36 dX4_string_44 g1 rfl ?_
  refine x_aload_n 0 dX4_string_47 rfl ?_
  refine x_get (v := .int (fI h x0 1028)) fdX4_32 dX4_string_48 g1 rfl ?_
  refine x_icmp_ge (tgt := 86) dX4_string_51 (by decide) (fun c2 => ?_) (fun c2 => ?_)
  · replace hq := hq.1 c2
    exact uX4_string_86 hq
  · replace hq := hq.2 c2
    refine x_aload_n 0 dX4_string_54 rfl ?_
    refine x_iconst (v := 0) dX4_string_55 (by decide) ?_
    obtain ⟨g3, g4, hq⟩ := hq
    refine x_callV (Yc := YX4_here) (as := [.int 0]) (st := []) q1580 mvX4_here g1 rfl dX4_string_56 (xle (xal1 (rv_cat _) (xal1 rfl xal0)) (by decide)) (xfr g3) (xlo xsw0 (by decide) g4) (xKi hq (fun x6 h5 hq e7 => ?_) (fun _ _ q _ => q))
    replace hq := hq e7
    refine x_bipush (v := 32) dX4_string_59 (by decide) ?_
    refine x_icmp_lt (tgt := 86) dX4_string_61 (by decide) (fun c8 => ?_) (fun c8 => ?_)
    · replace hq := hq.1 c8
      exact uX4_string_86 hq
    · replace hq := hq.2 c8
      refine x_aload_n 0 dX4_string_64 rfl ?_
      refine x_iconst (v := 0) dX4_string_65 (by decide) ?_
      have t9 : tg h5 x0 = 5 := e7.tg g1 (by decide)
      obtain ⟨g10, g11, hq⟩ := hq
      refine x_callV (Yc := YX4_here) (as := [.int 0]) (st := []) q1580 mvX4_here t9 rfl dX4_string_66 (xle (xal1 (rv_cat _) (xal1 rfl xal0)) (by decide)) (xfr g10) (xlo xsw0 (by decide) g11) (xKi hq (fun x13 h12 hq e14 => ?_) (fun _ _ q _ => q))
      replace hq := hq e14
      refine x_bipush (v := 126) dX4_string_69 (by decide) ?_
      refine x_icmp_gt (tgt := 86) dX4_string_71 (by decide) (fun c15 => ?_) (fun c15 => ?_)
      · replace hq := hq.1 c15
        exact uX4_string_86 hq
      · replace hq := hq.2 c15
        refine x_aload_n 0 dX4_string_74 rfl ?_
        have t16 : tg h12 x0 = 5 := e14.tg t9 (by decide)
        refine x_get (v := rv (fR h12 x0 1027)) fdX4_14 dX4_string_75 t16 rfl ?_
        obtain ⟨g17, hq⟩ := hq
        obtain ⟨g18, g19, hq⟩ := hq
        refine x_callV (Yc := YJ4_length) (as := []) (st := []) q1686 mvJ4_length g17 rfl dX4_string_78 (xle (xal1 (rv_cat _) xal0) (by decide)) (xfr g18) (xlo xsw0 (by decide) g19) (xKi hq (fun x21 h20 hq e22 => ?_) (fun _ _ q _ => q))
        replace hq := hq e22
        refine x_bipush (v := 80) dX4_string_81 (by decide) ?_
        refine x_icmp_ne (tgt := 92) dX4_string_83 (by decide) (fun c23 => ?_) (fun c23 => ?_)
        · replace hq := hq.1 c23
          refine x_aload_n 0 dX4_string_92 rfl ?_
          have t24 : tg h20 x0 = 5 := e22.tg t16 (by decide)
          refine x_get (v := rv (fR h20 x0 1027)) fdX4_14 dX4_string_93 t24 rfl ?_
          refine x_aload_n 0 dX4_string_96 rfl ?_
          refine x_iconst (v := 0) dX4_string_97 (by decide) ?_
          obtain ⟨g25, g26, hq⟩ := hq
          refine x_callV (Yc := YX4_here) (as := [.int 0]) (st := [rv (fR h20 x0 1027)]) q1580 mvX4_here t24 rfl dX4_string_98 (xle (xal1 (rv_cat _) (xal1 rfl xal0)) (by decide)) (xfr g25) (xlo (xsw1 (rv_cat _) xsw0) (by decide) g26) (xKi hq (fun x28 h27 hq e29 => ?_) (fun _ _ q _ => q))
          replace hq := hq e29
          refine x_i2c dX4_string_101 ?_
          obtain ⟨g30, hq⟩ := hq
          obtain ⟨g31, g32, hq⟩ := hq
          refine x_callV (Yc := YJ4_append) (as := [.int ((Int32.toUInt32 x28 % 65536).toInt32)]) (st := []) q1641 mvJ4_append g30 rfl dX4_string_102 (xle (xal1 (rv_cat _) (xal1 rfl xal0)) (by decide)) (xfr g31) (xlo xsw0 (by decide) g32) (xKr hq (fun x34 h33 hq e35 => ?_) (fun _ _ q _ => q))
          replace hq := hq e35
          refine x_pop dX4_string_105 (rv_cat _) ?_
          refine x_aload_n 0 dX4_string_106 rfl ?_
          refine x_dup dX4_string_107 (rv_cat _) ?_
          have t36 : tg h27 x0 = 5 := e29.tg t24 (by decide)
          have t37 : tg h33 x0 = 5 := e35.tg t36 (by decide)
          refine x_get (v := .int (fI h33 x0 1029)) fdX4_36 dX4_string_108 t37 rfl ?_
          refine x_aload_n 0 dX4_string_111 rfl ?_
          refine x_iconst (v := 0) dX4_string_112 (by decide) ?_
          obtain ⟨g38, g39, hq⟩ := hq
          refine x_callV (Yc := YX4_here) (as := [.int 0]) (st := [.int (fI h33 x0 1029), rv x0]) q1580 mvX4_here t37 rfl dX4_string_113 (xle (xal1 (rv_cat _) (xal1 rfl xal0)) (by decide)) (xfr g38) (xlo (xsw1 rfl (xsw1 (rv_cat _) xsw0)) (by decide) g39) (xKi hq (fun x41 h40 hq e42 => ?_) (fun _ _ q _ => q))
          replace hq := hq e42
          refine x_bipush (v := 39) dX4_string_116 (by decide) ?_
          refine x_icmp_ne (tgt := 125) dX4_string_118 (by decide) (fun c43 => ?_) (fun c43 => ?_)
          · replace hq := hq.1 c43
            refine x_iconst (v := 1) dX4_string_125 (by decide) ?_
            exact uX4_string_126 hq
          · replace hq := hq.2 c43
            refine x_iconst (v := 2) dX4_string_121 (by decide) ?_
            refine x_goto (tgt := 126) dX4_string_122 (by decide) ?_
            exact uX4_string_126 hq
        · replace hq := hq.2 c23
          exact uX4_string_86 hq
set_option maxRecDepth 100000 in
def bX4_string_23 (G : xG) (fr lo : Nat) (x0 : Nat) (x1 : Int32) (h : xH) (Q : Outcome → xH → Prop) : Prop := tg h x0 = 5 ∧ 1 ≤ fr ∧ 13 ≤ lo ∧ xRi G YX4_here (fr - 1) (lo - 13) [rv x0, .int 0] h (fun x5 h4 => xext h h4 → ((¬ x5 = 39 → bX4_string_43 G fr lo x0 x1 h4 Q) ∧ (x5 = 39 → 1 ≤ fr ∧ 13 ≤ lo ∧ xRi G YX4_here (fr - 1) (lo - 13) [rv x0, .int 1] h4 (fun x12 h11 => xext h4 h11 → ((¬ x12 = 39 → (∀ h16 : xH, h16 = sI h11 x0 1029 ((fI h11 x0 1029) + 1) → tg h16 (fR h16 x0 1027) = 30 ∧ 1 ≤ fr ∧ 12 ≤ lo ∧ xRi G YJ4_length (fr - 1) (lo - 12) [rv (fR h16 x0 1027)] h16 (fun x23 h22 => xext h16 h22 → ((¬ x23 = 0 → nx h22 + 1 ≤ xGN G ∧ us h22 + 5 ≤ xGU G ∧ (∀ (a28 : Nat) (h29 : xH), a28 = nx h22 + 1 → h29 = nO h22 15 5 → xfresh h22 a28 → tg h29 (fR h29 x0 1027) = 30 ∧ 1 ≤ fr ∧ 15 ≤ lo ∧ xRr G YJ4_toString (fr - 1) (lo - 15) [rv (fR h29 x0 1027)] h29 (fun x40 h39 => xext h29 h39 → 1 ≤ fr ∧ 19 ≤ lo ∧ xRv G YX14_init (fr - 1) (lo - 19) [rv a28, rv (xGS G 4), rv x40, .int x1, .int 0, .double FP.dconst0] h39 (fun h45 => xext h39 h45 → Q (.returned (some (rv a28))) h45) (fun r h2 => Q (.threw r) h2)) (fun r h2 => Q (.threw r) h2))) ∧ (x23 = 0 → 1 ≤ fr ∧ 13 ≤ lo ∧ xRr G YX4_wrong (fr - 1) (lo - 13) [rv x0, .int x1] h22 (fun x52 h51 => xext h22 h51 → (∃ r54, x52 = r54 + 1 ∧ Q (.threw r54) h51)) (fun r h2 => Q (.threw r) h2)))) (fun r h2 => Q (.threw r) h2))) ∧ (x12 = 39 → bX4_string_43 G fr lo x0 x1 h11 Q))) (fun r h2 => Q (.threw r) h2)))) (fun r h2 => Q (.threw r) h2)
set_option maxRecDepth 100000 in
theorem uX4_string_23 {G : xG} {fr lo : Nat} {x0 : Nat} {x1 : Int32} {h : xH} {Q : Outcome → xH → Prop} (hq : bX4_string_23 G fr lo x0 x1 h Q) : xP G YX4_string fr lo 23 [(0, rv x0), (1, .int x1)] [] h Q := by
  unfold bX4_string_23 at hq
  refine x_aload_n 0 dX4_string_23 rfl ?_
  refine x_iconst (v := 0) dX4_string_24 (by decide) ?_
  obtain ⟨g1, hq⟩ := hq
  obtain ⟨g2, g3, hq⟩ := hq
  refine x_callV (Yc := YX4_here) (as := [.int 0]) (st := []) q1580 mvX4_here g1 rfl dX4_string_25 (xle (xal1 (rv_cat _) (xal1 rfl xal0)) (by decide)) (xfr g2) (xlo xsw0 (by decide) g3) (xKi hq (fun x5 h4 hq e6 => ?_) (fun _ _ q _ => q))
  replace hq := hq e6
  refine x_bipush (v := 39) dX4_string_28 (by decide) ?_
  refine x_icmp_ne (tgt := 43) dX4_string_30 (by decide) (fun c7 => ?_) (fun c7 => ?_)
  · replace hq := hq.1 c7
    exact uX4_string_43 hq
  · replace hq := hq.2 c7
    refine x_aload_n 0 dX4_string_33 rfl ?_
    refine x_iconst (v := 1) dX4_string_34 (by decide) ?_
    have t8 : tg h4 x0 = 5 := e6.tg g1 (by decide)
    obtain ⟨g9, g10, hq⟩ := hq
    refine x_callV (Yc := YX4_here) (as := [.int 1]) (st := []) q1580 mvX4_here t8 rfl dX4_string_35 (xle (xal1 (rv_cat _) (xal1 rfl xal0)) (by decide)) (xfr g9) (xlo xsw0 (by decide) g10) (xKi hq (fun x12 h11 hq e13 => ?_) (fun _ _ q _ => q))
    replace hq := hq e13
    refine x_bipush (v := 39) dX4_string_38 (by decide) ?_
    refine x_icmp_ne (tgt := 133) dX4_string_40 (by decide) (fun c14 => ?_) (fun c14 => ?_)
    · replace hq := hq.1 c14
      refine x_aload_n 0 dX4_string_133 rfl ?_
      refine x_dup dX4_string_134 (rv_cat _) ?_
      have t15 : tg h11 x0 = 5 := e13.tg t8 (by decide)
      refine x_get (v := .int (fI h11 x0 1029)) fdX4_36 dX4_string_135 t15 rfl ?_
      refine x_iconst (v := 1) dX4_string_138 (by decide) ?_
      refine x_iadd dX4_string_139 ?_
      obtain ⟨h16, e17⟩ : ∃ y, y = sI h11 x0 1029 ((fI h11 x0 1029) + 1) := ⟨_, rfl⟩
      replace hq := hq h16 e17
      refine x_putI fdX4_36 xty_I1 dX4_string_140 t15 (Or.inl (by rw [t15]; rfl)) xnI rfl e17 ?_
      refine x_aload_n 0 dX4_string_143 rfl ?_
      have t18 : tg h16 x0 = 5 := by rw [e17]; exact t15
      refine x_get (v := rv (fR h16 x0 1027)) fdX4_14 dX4_string_144 t18 rfl ?_
      obtain ⟨g19, hq⟩ := hq
      obtain ⟨g20, g21, hq⟩ := hq
      refine x_callV (Yc := YJ4_length) (as := []) (st := []) q1686 mvJ4_length g19 rfl dX4_string_147 (xle (xal1 (rv_cat _) xal0) (by decide)) (xfr g20) (xlo xsw0 (by decide) g21) (xKi hq (fun x23 h22 hq e24 => ?_) (fun _ _ q _ => q))
      replace hq := hq e24
      refine x_if_ne (tgt := 159) dX4_string_150 (by decide) (fun c25 => ?_) (fun c25 => ?_)
      · replace hq := hq.1 c25
        obtain ⟨g26, g27, hq⟩ := hq
        obtain ⟨a28, e30⟩ : ∃ y, y = nx h22 + 1 := ⟨_, rfl⟩
        obtain ⟨h29, e31⟩ : ∃ y, y = nO h22 15 5 := ⟨_, rfl⟩
        refine x_new' cdX4_58 dX4_string_159 g26 g27 e30 e31 (fun f32 => ?_)
        replace hq := hq a28 h29 e30 e31 f32
        have t33 : tg h29 a28 = 15 := by rw [e31, e30]; exact tg_nO
        refine x_dup dX4_string_162 (rv_cat _) ?_
        refine x_gets (v := rv (xGS G 4)) 4 rfl q1687 (by simp [xsv]) dX4_string_163 ?_
        refine x_aload_n 0 dX4_string_166 rfl ?_
        have t34 : tg h22 x0 = 5 := e24.tg t18 (by decide)
        have t35 : tg h29 x0 = 5 := by rw [e31]; exact tg_nO_ne e30 f32 t34 (by decide)
        refine x_get (v := rv (fR h29 x0 1027)) fdX4_14 dX4_string_167 t35 rfl ?_
        obtain ⟨g36, hq⟩ := hq
        obtain ⟨g37, g38, hq⟩ := hq
        refine x_callV (Yc := YJ4_toString) (as := []) (st := [rv (xGS G 4), rv a28, rv a28]) q1642 mvJ4_toString g36 rfl dX4_string_170 (xle (xal1 (rv_cat _) xal0) (by decide)) (xfr g37) (xlo (xsw1 (rv_cat _) (xsw1 (rv_cat _) (xsw1 (rv_cat _) xsw0))) (by decide) g38) (xKr hq (fun x40 h39 hq e41 => ?_) (fun _ _ q _ => q))
        replace hq := hq e41
        refine x_iload_n 1 dX4_string_173 rfl ?_
        refine x_iconst (v := 0) dX4_string_174 (by decide) ?_
        refine x_dconst0 dX4_string_175 ?_
        have t42 : tg h39 a28 = 15 := e41.tg t33 (by decide)
        obtain ⟨g43, g44, hq⟩ := hq
        refine x_callI (Yc := YX14_init) (as := [rv (xGS G 4), rv x40, .int x1, .int 0, .double FP.dconst0]) (st := [rv a28]) q1598 miX14_init (by rw [t42]; decide) rfl dX4_string_176 (xle (xal1 (rv_cat _) (xal1 (rv_cat _) (xal1 (rv_cat _) (xal1 rfl (xal1 rfl (xal2 rfl xal0)))))) (by decide)) (xfr g43) (xlo (xsw1 (rv_cat _) xsw0) (by decide) g44) (xKv hq (fun h45 hq e47 => ?_) (fun _ _ q _ => q))
        replace hq := hq e47
        exact x_aret rfl xty_O dX4_string_179 hq
      · replace hq := hq.2 c25
        refine x_aload_n 0 dX4_string_153 rfl ?_
        refine x_iload_n 1 dX4_string_154 rfl ?_
        have t48 : tg h22 x0 = 5 := e24.tg t18 (by decide)
        obtain ⟨g49, g50, hq⟩ := hq
        refine x_callV (Yc := YX4_wrong) (as := [.int x1]) (st := []) q1588 mvX4_wrong t48 rfl dX4_string_155 (xle (xal1 (rv_cat _) (xal1 rfl xal0)) (by decide)) (xfr g49) (xlo xsw0 (by decide) g50) (xKr hq (fun x52 h51 hq e53 => ?_) (fun _ _ q _ => q))
        replace hq := hq e53
        obtain ⟨r54, g55, hq⟩ := hq
        rw [g55]
        exact x_athrow dX4_string_158 hq
    · replace hq := hq.2 c14
      exact uX4_string_43 hq
set_option maxRecDepth 100000 in
def bX4_string (G : xG) (fr lo : Nat) (x0 : Nat) (h : xH) (Q : Outcome → xH → Prop) : Prop := tg h x0 = 5 ∧ tg h (fR h x0 1027) = 30 ∧ 1 ≤ fr ∧ 13 ≤ lo ∧ xRv G YJ4_setLength (fr - 1) (lo - 13) [rv (fR h x0 1027), .int 0] h (fun h5 => xext h h5 → (∀ h9 : xH, h9 = sI h5 x0 1029 ((fI h5 x0 1029) + 1) → lX4_string_23 G fr lo x0 (fI h x0 1029) h9 Q)) (fun r h2 => Q (.threw r) h2)
set_option maxRecDepth 100000 in
theorem uX4_string {G : xG} {fr lo : Nat} {x0 : Nat} {h : xH} {Q : Outcome → xH → Prop} (hq : bX4_string G fr lo x0 h Q) : xP G YX4_string fr lo 0 [(0, rv x0)] [] h Q := by
  unfold bX4_string at hq
  refine x_aload_n 0 dX4_string_0 rfl ?_
  obtain ⟨g1, hq⟩ := hq
  refine x_get (v := .int (fI h x0 1029)) fdX4_36 dX4_string_1 g1 rfl ?_
  refine x_istore_n (lv' := [(1, .int (fI h x0 1029)), (0, rv x0)]) dX4_string_4 (by decide) (by first | rfl | (simp [rv_cat, Value.category]; done) | (simp [rv_cat, Value.category]; decide)) ?_
  refine x_aload_n 1 dX4_string_5 rfl ?_
  refine x_get (v := rv (fR h x0 1027)) fdX4_14 dX4_string_6 g1 rfl ?_
  refine x_iconst (v := 0) dX4_string_9 (by decide) ?_
  obtain ⟨g2, hq⟩ := hq
  obtain ⟨g3, g4, hq⟩ := hq
  refine x_callV (Yc := YJ4_setLength) (as := [.int 0]) (st := []) q1634 mvJ4_setLength g2 rfl dX4_string_10 (xle (xal1 (rv_cat _) (xal1 rfl xal0)) (by decide)) (xfr g3) (xlo xsw0 (by decide) g4) (xKv hq (fun h5 hq e7 => ?_) (fun _ _ q _ => q))
  replace hq := hq e7
  refine x_aload_n 1 dX4_string_13 rfl ?_
  refine x_dup dX4_string_14 (rv_cat _) ?_
  have t8 : tg h5 x0 = 5 := e7.tg g1 (by decide)
  refine x_get (v := .int (fI h5 x0 1029)) fdX4_36 dX4_string_15 t8 rfl ?_
  refine x_iconst (v := 1) dX4_string_18 (by decide) ?_
  refine x_iadd dX4_string_19 ?_
  obtain ⟨h9, e10⟩ : ∃ y, y = sI h5 x0 1029 ((fI h5 x0 1029) + 1) := ⟨_, rfl⟩
  replace hq := hq h9 e10
  refine x_putI fdX4_36 xty_I1 dX4_string_20 t8 (Or.inl (by rw [t8]; rfl)) xnI rfl e10 ?_
  refine xP.pick (lv' := [(0, rv x0), (1, .int (fI h x0 1029))]) [1, 0] rfl ?_
  exact hq
theorem rX4_string {G : xG} {fr lo : Nat} {x0 : Nat} {h : xH} {Q : Outcome → xH → Prop} (hq : bX4_string G fr lo x0 h Q) : xR G YX4_string fr lo [rv x0] h Q := by
  show xP _ _ _ _ _ (lv_args 0 _) _ _ _
  rw [show lv_args 0 [rv x0] = [(0, rv x0)] from (xla1 (rv_cat _) xla0)]
  exact uX4_string hq
set_option maxRecDepth 100000 in
theorem dX4_sign_0 : decode cX4_sign 0 = .ok (.aload_n 0, 1) := by decide +kernel
set_option maxRecDepth 100000 in
theorem dX4_sign_1 : decode cX4_sign 1 = .ok (.getfield 36, 3) := by decide +kernel
set_option maxRecDepth 100000 in
theorem dX4_sign_4 : decode cX4_sign 4 = .ok (.istore_n 1, 1) := by decide +kernel
set_option maxRecDepth 100000 in
theorem dX4_sign_5 : decode cX4_sign 5 = .ok (.aload_n 0, 1) := by decide +kernel
set_option maxRecDepth 100000 in
theorem dX4_sign_6 : decode cX4_sign 6 = .ok (.iconst 0, 1) := by decide +kernel
set_option maxRecDepth 100000 in
theorem dX4_sign_7 : decode cX4_sign 7 = .ok (.invokevirtual 44, 3) := by decide +kernel
set_option maxRecDepth 100000 in
theorem dX4_sign_10 : decode cX4_sign 10 = .ok (.istore_n 2, 1) := by decide +kernel
set_option maxRecDepth 100000 in
theorem dX4_sign_11 : decode cX4_sign 11 = .ok (.aload_n 0, 1) := by decide +kernel
set_option maxRecDepth 100000 in
theorem dX4_sign_12 : decode cX4_sign 12 = .ok (.iconst 1, 1) := by decide +kernel
set_option maxRecDepth 100000 in
theorem dX4_sign_13 : decode cX4_sign 13 = .ok (.invokevirtual 44, 3) := by decide +kernel
set_option maxRecDepth 100000 in
theorem dX4_sign_16 : decode cX4_sign 16 = .ok (.istore_n 3, 1) := by decide +kernel
set_option maxRecDepth 100000 in
theorem dX4_sign_17 : decode cX4_sign 17 = .ok (.iload_n 2, 1) := by decide +kernel
set_option maxRecDepth 100000 in
theorem dX4_sign_18 : decode cX4_sign 18 = .ok (.bipush 40, 2) := by decide +kernel
set_option maxRecDepth 100000 in
theorem dX4_sign_20 : decode cX4_sign 20 = .ok (.if_icmp .ne 16, 3) := by decide +kernel
set_option maxRecDepth 100000 in
theorem dX4_sign_23 : decode cX4_sign 23 = .ok (.iload_n 3, 1) := by decide +kernel
set_option maxRecDepth 100000 in
theorem dX4_sign_24 : decode cX4_sign 24 = .ok (.bipush 46, 2) := by decide +kernel
set_option maxRecDepth 100000 in
theorem dX4_sign_26 : decode cX4_sign 26 = .ok (.if_icmp .ne 10, 3) := by decide +kernel
set_option maxRecDepth 100000 in
theorem dX4_sign_29 : decode cX4_sign 29 = .ok (.ldc 147, 2) := by decide +kernel
set_option maxRecDepth 100000 in
theorem dX4_sign_31 : decode cX4_sign 31 = .ok (.astore 4, 2) := by decide +kernel
set_option maxRecDepth 100000 in
theorem dX4_sign_33 : decode cX4_sign 33 = .ok (.goto 123, 3) := by decide +kernel
set_option maxRecDepth 100000 in
theorem dX4_sign_36 : decode cX4_sign 36 = .ok (.iload_n 2, 1) := by decide +kernel
set_option maxRecDepth 100000 in
theorem dX4_sign_37 : decode cX4_sign 37 = .ok (.bipush 46, 2) := by decide +kernel
set_option maxRecDepth 100000 in
theorem dX4_sign_39 : decode cX4_sign 39 = .ok (.if_icmp .ne 16, 3) := by decide +kernel
set_option maxRecDepth 100000 in
theorem dX4_sign_42 : decode cX4_sign 42 = .ok (.iload_n 3, 1) := by decide +kernel
set_option maxRecDepth 100000 in
theorem dX4_sign_43 : decode cX4_sign 43 = .ok (.bipush 41, 2) := by decide +kernel
set_option maxRecDepth 100000 in
theorem dX4_sign_45 : decode cX4_sign 45 = .ok (.if_icmp .ne 10, 3) := by decide +kernel
set_option maxRecDepth 100000 in
theorem dX4_sign_48 : decode cX4_sign 48 = .ok (.ldc 149, 2) := by decide +kernel
set_option maxRecDepth 100000 in
theorem dX4_sign_50 : decode cX4_sign 50 = .ok (.astore 4, 2) := by decide +kernel
set_option maxRecDepth 100000 in
theorem dX4_sign_52 : decode cX4_sign 52 = .ok (.goto 104, 3) := by decide +kernel
set_option maxRecDepth 100000 in
theorem dX4_sign_55 : decode cX4_sign 55 = .ok (.iload_n 2, 1) := by decide +kernel
set_option maxRecDepth 100000 in
theorem dX4_sign_56 : decode cX4_sign 56 = .ok (.bipush 60, 2) := by decide +kernel
set_option maxRecDepth 100000 in
theorem dX4_sign_58 : decode cX4_sign 58 = .ok (.if_icmp .ne 16, 3) := by decide +kernel
set_option maxRecDepth 100000 in
theorem dX4_sign_61 : decode cX4_sign 61 = .ok (.iload_n 3, 1) := by decide +kernel
set_option maxRecDepth 100000 in
theorem dX4_sign_62 : decode cX4_sign 62 = .ok (.bipush 61, 2) := by decide +kernel
set_option maxRecDepth 100000 in
theorem dX4_sign_64 : decode cX4_sign 64 = .ok (.if_icmp .ne 10, 3) := by decide +kernel
set_option maxRecDepth 100000 in
theorem dX4_sign_67 : decode cX4_sign 67 = .ok (.ldc 151, 2) := by decide +kernel
set_option maxRecDepth 100000 in
theorem dX4_sign_69 : decode cX4_sign 69 = .ok (.astore 4, 2) := by decide +kernel
set_option maxRecDepth 100000 in
theorem dX4_sign_71 : decode cX4_sign 71 = .ok (.goto 85, 3) := by decide +kernel
set_option maxRecDepth 100000 in
theorem dX4_sign_74 : decode cX4_sign 74 = .ok (.iload_n 2, 1) := by decide +kernel
set_option maxRecDepth 100000 in
theorem dX4_sign_75 : decode cX4_sign 75 = .ok (.bipush 62, 2) := by decide +kernel
set_option maxRecDepth 100000 in
theorem dX4_sign_77 : decode cX4_sign 77 = .ok (.if_icmp .ne 16, 3) := by decide +kernel
set_option maxRecDepth 100000 in
theorem dX4_sign_80 : decode cX4_sign 80 = .ok (.iload_n 3, 1) := by decide +kernel
set_option maxRecDepth 100000 in
theorem dX4_sign_81 : decode cX4_sign 81 = .ok (.bipush 61, 2) := by decide +kernel
set_option maxRecDepth 100000 in
theorem dX4_sign_83 : decode cX4_sign 83 = .ok (.if_icmp .ne 10, 3) := by decide +kernel
set_option maxRecDepth 100000 in
theorem dX4_sign_86 : decode cX4_sign 86 = .ok (.ldc 153, 2) := by decide +kernel
set_option maxRecDepth 100000 in
theorem dX4_sign_88 : decode cX4_sign 88 = .ok (.astore 4, 2) := by decide +kernel
set_option maxRecDepth 100000 in
theorem dX4_sign_90 : decode cX4_sign 90 = .ok (.goto 66, 3) := by decide +kernel
set_option maxRecDepth 100000 in
theorem dX4_sign_93 : decode cX4_sign 93 = .ok (.iload_n 2, 1) := by decide +kernel
set_option maxRecDepth 100000 in
theorem dX4_sign_94 : decode cX4_sign 94 = .ok (.bipush 60, 2) := by decide +kernel
set_option maxRecDepth 100000 in
theorem dX4_sign_96 : decode cX4_sign 96 = .ok (.if_icmp .ne 16, 3) := by decide +kernel
set_option maxRecDepth 100000 in
theorem dX4_sign_99 : decode cX4_sign 99 = .ok (.iload_n 3, 1) := by decide +kernel
set_option maxRecDepth 100000 in
theorem dX4_sign_100 : decode cX4_sign 100 = .ok (.bipush 62, 2) := by decide +kernel
set_option maxRecDepth 100000 in
theorem dX4_sign_102 : decode cX4_sign 102 = .ok (.if_icmp .ne 10, 3) := by decide +kernel
set_option maxRecDepth 100000 in
theorem dX4_sign_105 : decode cX4_sign 105 = .ok (.ldc 155, 2) := by decide +kernel
set_option maxRecDepth 100000 in
theorem dX4_sign_107 : decode cX4_sign 107 = .ok (.astore 4, 2) := by decide +kernel
set_option maxRecDepth 100000 in
theorem dX4_sign_109 : decode cX4_sign 109 = .ok (.goto 47, 3) := by decide +kernel
set_option maxRecDepth 100000 in
theorem dX4_sign_112 : decode cX4_sign 112 = .ok (.iload_n 2, 1) := by decide +kernel
set_option maxRecDepth 100000 in
theorem dX4_sign_113 : decode cX4_sign 113 = .ok (.bipush 58, 2) := by decide +kernel
set_option maxRecDepth 100000 in
theorem dX4_sign_115 : decode cX4_sign 115 = .ok (.if_icmp .ne 16, 3) := by decide +kernel
set_option maxRecDepth 100000 in
theorem dX4_sign_118 : decode cX4_sign 118 = .ok (.iload_n 3, 1) := by decide +kernel
set_option maxRecDepth 100000 in
theorem dX4_sign_119 : decode cX4_sign 119 = .ok (.bipush 61, 2) := by decide +kernel
set_option maxRecDepth 100000 in
theorem dX4_sign_121 : decode cX4_sign 121 = .ok (.if_icmp .ne 10, 3) := by decide +kernel
set_option maxRecDepth 100000 in
theorem dX4_sign_124 : decode cX4_sign 124 = .ok (.ldc 157, 2) := by decide +kernel
set_option maxRecDepth 100000 in
theorem dX4_sign_126 : decode cX4_sign 126 = .ok (.astore 4, 2) := by decide +kernel
set_option maxRecDepth 100000 in
theorem dX4_sign_128 : decode cX4_sign 128 = .ok (.goto 28, 3) := by decide +kernel
set_option maxRecDepth 100000 in
theorem dX4_sign_131 : decode cX4_sign 131 = .ok (.iload_n 2, 1) := by decide +kernel
set_option maxRecDepth 100000 in
theorem dX4_sign_132 : decode cX4_sign 132 = .ok (.bipush 46, 2) := by decide +kernel
set_option maxRecDepth 100000 in
theorem dX4_sign_134 : decode cX4_sign 134 = .ok (.if_icmp .ne 16, 3) := by decide +kernel
set_option maxRecDepth 100000 in
theorem dX4_sign_137 : decode cX4_sign 137 = .ok (.iload_n 3, 1) := by decide +kernel
set_option maxRecDepth 100000 in
theorem dX4_sign_138 : decode cX4_sign 138 = .ok (.bipush 46, 2) := by decide +kernel
set_option maxRecDepth 100000 in
theorem dX4_sign_140 : decode cX4_sign 140 = .ok (.if_icmp .ne 10, 3) := by decide +kernel
set_option maxRecDepth 100000 in
theorem dX4_sign_143 : decode cX4_sign 143 = .ok (.ldc 159, 2) := by decide +kernel
set_option maxRecDepth 100000 in
theorem dX4_sign_145 : decode cX4_sign 145 = .ok (.astore 4, 2) := by decide +kernel
set_option maxRecDepth 100000 in
theorem dX4_sign_147 : decode cX4_sign 147 = .ok (.goto 9, 3) := by decide +kernel
set_option maxRecDepth 100000 in
theorem dX4_sign_150 : decode cX4_sign 150 = .ok (.iload_n 2, 1) := by decide +kernel
set_option maxRecDepth 100000 in
theorem dX4_sign_151 : decode cX4_sign 151 = .ok (.invokestatic 161, 3) := by decide +kernel
set_option maxRecDepth 100000 in
theorem dX4_sign_154 : decode cX4_sign 154 = .ok (.astore 4, 2) := by decide +kernel
set_option maxRecDepth 100000 in
theorem dX4_sign_156 : decode cX4_sign 156 = .ok (.aload 4, 2) := by decide +kernel
set_option maxRecDepth 100000 in
theorem dX4_sign_158 : decode cX4_sign 158 = .ok (.ifnonnull 9, 3) := by decide +kernel
set_option maxRecDepth 100000 in
theorem dX4_sign_161 : decode cX4_sign 161 = .ok (.aload_n 0, 1) := by decide +kernel
set_option maxRecDepth 100000 in
theorem dX4_sign_162 : decode cX4_sign 162 = .ok (.iload_n 1, 1) := by decide +kernel
set_option maxRecDepth 100000 in
theorem dX4_sign_163 : decode cX4_sign 163 = .ok (.invokevirtual 51, 3) := by decide +kernel
set_option maxRecDepth 100000 in
theorem dX4_sign_166 : decode cX4_sign 166 = .ok (.athrow, 1) := by decide +kernel
set_option maxRecDepth 100000 in
theorem dX4_sign_167 : decode cX4_sign 167 = .ok (.iload_n 2, 1) := by decide +kernel
set_option maxRecDepth 100000 in
theorem dX4_sign_168 : decode cX4_sign 168 = .ok (.bipush 40, 2) := by decide +kernel
set_option maxRecDepth 100000 in
theorem dX4_sign_170 : decode cX4_sign 170 = .ok (.if_icmp .ne 9, 3) := by decide +kernel
set_option maxRecDepth 100000 in
theorem dX4_sign_173 : decode cX4_sign 173 = .ok (.iload_n 3, 1) := by decide +kernel
set_option maxRecDepth 100000 in
theorem dX4_sign_174 : decode cX4_sign 174 = .ok (.bipush 46, 2) := by decide +kernel
set_option maxRecDepth 100000 in
theorem dX4_sign_176 : decode cX4_sign 176 = .ok (.if_icmp .eq 24, 3) := by decide +kernel
set_option maxRecDepth 100000 in
theorem dX4_sign_179 : decode cX4_sign 179 = .ok (.iload_n 2, 1) := by decide +kernel
set_option maxRecDepth 100000 in
theorem dX4_sign_180 : decode cX4_sign 180 = .ok (.bipush 46, 2) := by decide +kernel
set_option maxRecDepth 100000 in
theorem dX4_sign_182 : decode cX4_sign 182 = .ok (.if_icmp .ne 9, 3) := by decide +kernel
set_option maxRecDepth 100000 in
theorem dX4_sign_185 : decode cX4_sign 185 = .ok (.iload_n 3, 1) := by decide +kernel
set_option maxRecDepth 100000 in
theorem dX4_sign_186 : decode cX4_sign 186 = .ok (.bipush 41, 2) := by decide +kernel
set_option maxRecDepth 100000 in
theorem dX4_sign_188 : decode cX4_sign 188 = .ok (.if_icmp .eq 12, 3) := by decide +kernel
set_option maxRecDepth 100000 in
theorem dX4_sign_191 : decode cX4_sign 191 = .ok (.aload 4, 2) := by decide +kernel
set_option maxRecDepth 100000 in
theorem dX4_sign_193 : decode cX4_sign 193 = .ok (.invokevirtual 165, 3) := by decide +kernel
set_option maxRecDepth 100000 in
theorem dX4_sign_196 : decode cX4_sign 196 = .ok (.iconst 2, 1) := by decide +kernel
set_option maxRecDepth 100000 in
theorem dX4_sign_197 : decode cX4_sign 197 = .ok (.if_icmp .ne 7, 3) := by decide +kernel
set_option maxRecDepth 100000 in
theorem dX4_sign_200 : decode cX4_sign 200 = .ok (.iconst 1, 1) := by decide +kernel
set_option maxRecDepth 100000 in
theorem dX4_sign_201 : decode cX4_sign 201 = .ok (.goto 4, 3) := by decide +kernel
set_option maxRecDepth 100000 in
theorem dX4_sign_204 : decode cX4_sign 204 = .ok (.iconst 0, 1) := by decide +kernel
set_option maxRecDepth 100000 in
theorem dX4_sign_205 : decode cX4_sign 205 = .ok (.istore 5, 2) := by decide +kernel
set_option maxRecDepth 100000 in
theorem dX4_sign_207 : decode cX4_sign 207 = .ok (.aload_n 0, 1) := by decide +kernel
set_option maxRecDepth 100000 in
theorem dX4_sign_208 : decode cX4_sign 208 = .ok (.dup, 1) := by decide +kernel
set_option maxRecDepth 100000 in
theorem dX4_sign_209 : decode cX4_sign 209 = .ok (.getfield 36, 3) := by decide +kernel
set_option maxRecDepth 100000 in
theorem dX4_sign_212 : decode cX4_sign 212 = .ok (.iload 5, 2) := by decide +kernel
set_option maxRecDepth 100000 in
theorem dX4_sign_214 : decode cX4_sign 214 = .ok (.ifCond .eq 7, 3) := by decide +kernel
set_option maxRecDepth 100000 in
theorem dX4_sign_217 : decode cX4_sign 217 = .ok (.iconst 2, 1) := by decide +kernel
set_option maxRecDepth 100000 in
theorem dX4_sign_218 : decode cX4_sign 218 = .ok (.goto 4, 3) := by decide +kernel
set_option maxRecDepth 100000 in
theorem dX4_sign_221 : decode cX4_sign 221 = .ok (.iconst 1, 1) := by decide +kernel
set_option maxRecDepth 100000 in
theorem dX4_sign_222 : decode cX4_sign 222 = .ok (.iadd, 1) := by decide +kernel
set_option maxRecDepth 100000 in
theorem dX4_sign_223 : decode cX4_sign 223 = .ok (.putfield 36, 3) := by decide +kernel
set_option maxRecDepth 100000 in
theorem dX4_sign_226 : decode cX4_sign 226 = .ok (.new 58, 3) := by decide +kernel
set_option maxRecDepth 100000 in
theorem dX4_sign_229 : decode cX4_sign 229 = .ok (.dup, 1) := by decide +kernel
set_option maxRecDepth 100000 in
theorem dX4_sign_230 : decode cX4_sign 230 = .ok (.getstatic 111, 3) := by decide +kernel
set_option maxRecDepth 100000 in
theorem dX4_sign_233 : decode cX4_sign 233 = .ok (.aload 4, 2) := by decide +kernel
set_option maxRecDepth 100000 in
theorem dX4_sign_235 : decode cX4_sign 235 = .ok (.iload_n 1, 1) := by decide +kernel
set_option maxRecDepth 100000 in
theorem dX4_sign_236 : decode cX4_sign 236 = .ok (.iconst 0, 1) := by decide +kernel
set_option maxRecDepth 100000 in
theorem dX4_sign_237 : decode cX4_sign 237 = .ok (.dconst 0, 1) := by decide +kernel
set_option maxRecDepth 100000 in
theorem dX4_sign_238 : decode cX4_sign 238 = .ok (.invokespecial 68, 3) := by decide +kernel
set_option maxRecDepth 100000 in
theorem dX4_sign_241 : decode cX4_sign 241 = .ok (.areturn, 1) := by decide +kernel
set_option maxRecDepth 100000 in
def bX4_sign_222 (G : xG) (fr lo : Nat) (x1 : Int32) (x4 : Nat) (s0 : Int32) (s1 : Int32) (s2 : Nat) (h : xH) (Q : Outcome → xH → Prop) : Prop := tg h s2 = 5 ∧ (∀ h2 : xH, h2 = sI h s2 1029 (s1 + s0) → nx h2 + 1 ≤ xGN G ∧ us h2 + 5 ≤ xGU G ∧ (∀ (a6 : Nat) (h7 : xH), a6 = nx h2 + 1 → h7 = nO h2 15 5 → xfresh h2 a6 → 1 ≤ fr ∧ 19 ≤ lo ∧ xRv G YX14_init (fr - 1) (lo - 19) [rv a6, rv (xGS G 0), rv x4, .int x1, .int 0, .double FP.dconst0] h7 (fun h14 => xext h7 h14 → Q (.returned (some (rv a6))) h14) (fun r h2 => Q (.threw r) h2)))
set_option maxRecDepth 100000 in
theorem uX4_sign_222 {G : xG} {fr lo : Nat} {x1 : Int32} {x4 : Nat} {s0 : Int32} {s1 : Int32} {s2 : Nat} {h : xH} {Q : Outcome → xH → Prop} (hq : bX4_sign_222 G fr lo x1 x4 s0 s1 s2 h Q) : xP G YX4_sign fr lo 222 [(1, .int x1), (4, rv x4)] [.int s0, .int s1, rv s2] h Q := by
  unfold bX4_sign_222 at hq
  refine x_iadd dX4_sign_222 ?_
  obtain ⟨g1, hq⟩ := hq
  obtain ⟨h2, e3⟩ : ∃ y, y = sI h s2 1029 (s1 + s0) := ⟨_, rfl⟩
  replace hq := hq h2 e3
  refine x_putI fdX4_36 xty_I1 dX4_sign_223 g1 (Or.inl (by rw [g1]; rfl)) xnI rfl e3 ?_
  obtain ⟨g4, g5, hq⟩ := hq
  obtain ⟨a6, e8⟩ : ∃ y, y = nx h2 + 1 := ⟨_, rfl⟩
  obtain ⟨h7, e9⟩ : ∃ y, y = nO h2 15 5 := ⟨_, rfl⟩
  refine x_new' cdX4_58 dX4_sign_226 g4 g5 e8 e9 (fun f10 => ?_)
  replace hq := hq a6 h7 e8 e9 f10
  have t11 : tg h7 a6 = 15 := by rw [e9, e8]; exact tg_nO
  refine x_dup dX4_sign_229 (rv_cat _) ?_
  refine x_gets (v := rv (xGS G 0)) 0 rfl q1651 (by simp [xsv]) dX4_sign_230 ?_
  refine x_aload 1 dX4_sign_233 rfl ?_
  refine x_iload_n 0 dX4_sign_235 rfl ?_
  refine x_iconst (v := 0) dX4_sign_236 (by decide) ?_
  refine x_dconst0 dX4_sign_237 ?_
  obtain ⟨g12, g13, hq⟩ := hq
  refine x_callI (Yc := YX14_init) (as := [rv (xGS G 0), rv x4, .int x1, .int 0, .double FP.dconst0]) (st := [rv a6]) q1598 miX14_init (by rw [t11]; decide) rfl dX4_sign_238 (xle (xal1 (rv_cat _) (xal1 (rv_cat _) (xal1 (rv_cat _) (xal1 rfl (xal1 rfl (xal2 rfl xal0)))))) (by decide)) (xfr g12) (xlo (xsw1 (rv_cat _) xsw0) (by decide) g13) (xKv hq (fun h14 hq e16 => ?_) (fun _ _ q _ => q))
  replace hq := hq e16
  exact x_aret rfl xty_O dX4_sign_241 hq
set_option maxRecDepth 100000 in
def bX4_sign_205 (G : xG) (fr lo : Nat) (x0 : Nat) (x1 : Int32) (x4 : Nat) (s0 : Int32) (h : xH) (Q : Outcome → xH → Prop) : Prop := tg h x0 = 5 ∧ ((s0 = 0 → bX4_sign_222 G fr lo x1 x4 1 (fI h x0 1029) x0 h Q) ∧ (¬ s0 = 0 → bX4_sign_222 G fr lo x1 x4 2 (fI h x0 1029) x0 h Q))
set_option maxRecDepth 100000 in
theorem uX4_sign_205 {G : xG} {fr lo : Nat} {x0 : Nat} {x1 : Int32} {x4 : Nat} {s0 : Int32} {h : xH} {Q : Outcome → xH → Prop} (hq : bX4_sign_205 G fr lo x0 x1 x4 s0 h Q) : xP G YX4_sign fr lo 205 [(0, rv x0), (1, .int x1), (4, rv x4)] [.int s0] h Q := by
  unfold bX4_sign_205 at hq
  refine x_istore (lv' := [(5, .int s0), (0, rv x0), (1, .int x1), (4, rv x4)]) dX4_sign_205 (by decide) (by first | rfl | (simp [rv_cat, Value.category]; done) | (simp [rv_cat, Value.category]; decide)) ?_
  refine x_aload_n 1 dX4_sign_207 rfl ?_
  refine x_dup dX4_sign_208 (rv_cat _) ?_
  obtain ⟨g1, hq⟩ := hq
  refine x_get (v := .int (fI h x0 1029)) fdX4_36 dX4_sign_209 g1 rfl ?_
  refine x_iload 0 dX4_sign_212 rfl ?_
  refine x_if_eq (tgt := 221) dX4_sign_214 (by decide) (fun c2 => ?_) (fun c2 => ?_)
  · replace hq := hq.1 c2
    refine x_iconst (v := 1) dX4_sign_221 (by decide) ?_
    refine xP.pick (lv' := [(1, .int x1), (4, rv x4)]) [2, 3] rfl ?_
    exact uX4_sign_222 hq
  · replace hq := hq.2 c2
    refine x_iconst (v := 2) dX4_sign_217 (by decide) ?_
    refine x_goto (tgt := 222) dX4_sign_218 (by decide) ?_
    refine xP.pick (lv' := [(1, .int x1), (4, rv x4)]) [2, 3] rfl ?_
    exact uX4_sign_222 hq
set_option maxRecDepth 100000 in
def bX4_sign_200 (G : xG) (fr lo : Nat) (x0 : Nat) (x1 : Int32) (x4 : Nat) (h : xH) (Q : Outcome → xH → Prop) : Prop := bX4_sign_205 G fr lo x0 x1 x4 1 h Q
set_option maxRecDepth 100000 in
theorem uX4_sign_200 {G : xG} {fr lo : Nat} {x0 : Nat} {x1 : Int32} {x4 : Nat} {h : xH} {Q : Outcome → xH → Prop} (hq : bX4_sign_200 G fr lo x0 x1 x4 h Q) : xP G YX4_sign fr lo 200 [(0, rv x0), (1, .int x1), (4, rv x4)] [] h Q := by
  unfold bX4_sign_200 at hq
  refine x_iconst (v := 1) dX4_sign_200 (by decide) ?_
  refine x_goto (tgt := 205) dX4_sign_201 (by decide) ?_
  exact uX4_sign_205 hq
set_option maxRecDepth 100000 in
def bX4_sign_191 (G : xG) (fr lo : Nat) (x0 : Nat) (x1 : Int32) (x4 : Nat) (h : xH) (Q : Outcome → xH → Prop) : Prop := tg h x4 = 31 ∧ 1 ≤ fr ∧ 12 ≤ lo ∧ xRi G YJ5_length (fr - 1) (lo - 12) [rv x4] h (fun x5 h4 => xext h h4 → ((¬ x5 = 2 → bX4_sign_205 G fr lo x0 x1 x4 0 h4 Q) ∧ (x5 = 2 → bX4_sign_200 G fr lo x0 x1 x4 h4 Q))) (fun r h2 => Q (.threw r) h2)
set_option maxRecDepth 100000 in
theorem uX4_sign_191 {G : xG} {fr lo : Nat} {x0 : Nat} {x1 : Int32} {x4 : Nat} {h : xH} {Q : Outcome → xH → Prop} (hq : bX4_sign_191 G fr lo x0 x1 x4 h Q) : xP G YX4_sign fr lo 191 [(0, rv x0), (1, .int x1), (4, rv x4)] [] h Q := by
  unfold bX4_sign_191 at hq
  refine x_aload 2 dX4_sign_191 rfl ?_
  obtain ⟨g1, hq⟩ := hq
  obtain ⟨g2, g3, hq⟩ := hq
  refine x_callV (Yc := YJ5_length) (as := []) (st := []) q1717 mvJ5_length g1 rfl dX4_sign_193 (xle (xal1 (rv_cat _) xal0) (by decide)) (xfr g2) (xlo xsw0 (by decide) g3) (xKi hq (fun x5 h4 hq e6 => ?_) (fun _ _ q _ => q))
  replace hq := hq e6
  refine x_iconst (v := 2) dX4_sign_196 (by decide) ?_
  refine x_icmp_ne (tgt := 204) dX4_sign_197 (by decide) (fun c7 => ?_) (fun c7 => ?_)
  · replace hq := hq.1 c7
    refine x_iconst (v := 0) dX4_sign_204 (by decide) ?_
    exact uX4_sign_205 hq
  · replace hq := hq.2 c7
    exact uX4_sign_200 hq
set_option maxRecDepth 100000 in
def bX4_sign_179 (G : xG) (fr lo : Nat) (x0 : Nat) (x1 : Int32) (x2 : Int32) (x3 : Int32) (x4 : Nat) (h : xH) (Q : Outcome → xH → Prop) : Prop := ((¬ x2 = 46 → bX4_sign_191 G fr lo x0 x1 x4 h Q) ∧ (x2 = 46 → ((x3 = 41 → bX4_sign_200 G fr lo x0 x1 x4 h Q) ∧ (¬ x3 = 41 → bX4_sign_191 G fr lo x0 x1 x4 h Q))))
set_option maxRecDepth 100000 in
theorem uX4_sign_179 {G : xG} {fr lo : Nat} {x0 : Nat} {x1 : Int32} {x2 : Int32} {x3 : Int32} {x4 : Nat} {h : xH} {Q : Outcome → xH → Prop} (hq : bX4_sign_179 G fr lo x0 x1 x2 x3 x4 h Q) : xP G YX4_sign fr lo 179 [(0, rv x0), (1, .int x1), (2, .int x2), (3, .int x3), (4, rv x4)] [] h Q := by
  unfold bX4_sign_179 at hq
  refine x_iload_n 2 dX4_sign_179 rfl ?_
  refine x_bipush (v := 46) dX4_sign_180 (by decide) ?_
  refine x_icmp_ne (tgt := 191) dX4_sign_182 (by decide) (fun c1 => ?_) (fun c1 => ?_)
  · replace hq := hq.1 c1
    refine xP.pick (lv' := [(0, rv x0), (1, .int x1), (4, rv x4)]) [0, 1, 4] rfl ?_
    exact uX4_sign_191 hq
  · replace hq := hq.2 c1
    refine x_iload_n 3 dX4_sign_185 rfl ?_
    refine x_bipush (v := 41) dX4_sign_186 (by decide) ?_
    refine x_icmp_eq (tgt := 200) dX4_sign_188 (by decide) (fun c2 => ?_) (fun c2 => ?_)
    · replace hq := hq.1 c2
      refine xP.pick (lv' := [(0, rv x0), (1, .int x1), (4, rv x4)]) [0, 1, 4] rfl ?_
      exact uX4_sign_200 hq
    · replace hq := hq.2 c2
      refine xP.pick (lv' := [(0, rv x0), (1, .int x1), (4, rv x4)]) [0, 1, 4] rfl ?_
      exact uX4_sign_191 hq
set_option maxRecDepth 100000 in
def bX4_sign_156 (G : xG) (fr lo : Nat) (x0 : Nat) (x1 : Int32) (x2 : Int32) (x3 : Int32) (x4 : Nat) (h : xH) (Q : Outcome → xH → Prop) : Prop := ((¬ x4 = 0 → ((¬ x2 = 40 → bX4_sign_179 G fr lo x0 x1 x2 x3 x4 h Q) ∧ (x2 = 40 → ((x3 = 46 → bX4_sign_200 G fr lo x0 x1 x4 h Q) ∧ (¬ x3 = 46 → bX4_sign_179 G fr lo x0 x1 x2 x3 x4 h Q))))) ∧ (x4 = 0 → tg h x0 = 5 ∧ 1 ≤ fr ∧ 13 ≤ lo ∧ xRr G YX4_wrong (fr - 1) (lo - 13) [rv x0, .int x1] h (fun x8 h7 => xext h h7 → (∃ r10, x8 = r10 + 1 ∧ Q (.threw r10) h7)) (fun r h2 => Q (.threw r) h2)))
set_option maxRecDepth 100000 in
theorem uX4_sign_156 {G : xG} {fr lo : Nat} {x0 : Nat} {x1 : Int32} {x2 : Int32} {x3 : Int32} {x4 : Nat} {h : xH} {Q : Outcome → xH → Prop} (hq : bX4_sign_156 G fr lo x0 x1 x2 x3 x4 h Q) : xP G YX4_sign fr lo 156 [(0, rv x0), (1, .int x1), (2, .int x2), (3, .int x3), (4, rv x4)] [] h Q := by
  unfold bX4_sign_156 at hq
  refine x_aload 4 dX4_sign_156 rfl ?_
  refine x_ifnonnull (tgt := 167) dX4_sign_158 (by decide) (fun c1 => ?_) (fun c1 => ?_)
  · replace hq := hq.1 c1
    refine x_iload_n 2 dX4_sign_167 rfl ?_
    refine x_bipush (v := 40) dX4_sign_168 (by decide) ?_
    refine x_icmp_ne (tgt := 179) dX4_sign_170 (by decide) (fun c2 => ?_) (fun c2 => ?_)
    · replace hq := hq.1 c2
      exact uX4_sign_179 hq
    · replace hq := hq.2 c2
      refine x_iload_n 3 dX4_sign_173 rfl ?_
      refine x_bipush (v := 46) dX4_sign_174 (by decide) ?_
      refine x_icmp_eq (tgt := 200) dX4_sign_176 (by decide) (fun c3 => ?_) (fun c3 => ?_)
      · replace hq := hq.1 c3
        refine xP.pick (lv' := [(0, rv x0), (1, .int x1), (4, rv x4)]) [0, 1, 4] rfl ?_
        exact uX4_sign_200 hq
      · replace hq := hq.2 c3
        exact uX4_sign_179 hq
  · replace hq := hq.2 c1
    refine x_aload_n 0 dX4_sign_161 rfl ?_
    refine x_iload_n 1 dX4_sign_162 rfl ?_
    obtain ⟨g4, hq⟩ := hq
    obtain ⟨g5, g6, hq⟩ := hq
    refine x_callV (Yc := YX4_wrong) (as := [.int x1]) (st := []) q1588 mvX4_wrong g4 rfl dX4_sign_163 (xle (xal1 (rv_cat _) (xal1 rfl xal0)) (by decide)) (xfr g5) (xlo xsw0 (by decide) g6) (xKr hq (fun x8 h7 hq e9 => ?_) (fun _ _ q _ => q))
    replace hq := hq e9
    obtain ⟨r10, g11, hq⟩ := hq
    rw [g11]
    exact x_athrow dX4_sign_166 hq
set_option maxRecDepth 100000 in
def bX4_sign_150 (G : xG) (fr lo : Nat) (x0 : Nat) (x1 : Int32) (x2 : Int32) (x3 : Int32) (h : xH) (Q : Outcome → xH → Prop) : Prop := 1 ≤ fr ∧ 12 ≤ lo ∧ xRr G YX4_single (fr - 1) (lo - 12) [.int x2] h (fun x4 h3 => xext h h3 → bX4_sign_156 G fr lo x0 x1 x2 x3 x4 h3 Q) (fun r h2 => Q (.threw r) h2)
set_option maxRecDepth 100000 in
theorem uX4_sign_150 {G : xG} {fr lo : Nat} {x0 : Nat} {x1 : Int32} {x2 : Int32} {x3 : Int32} {h : xH} {Q : Outcome → xH → Prop} (hq : bX4_sign_150 G fr lo x0 x1 x2 x3 h Q) : xP G YX4_sign fr lo 150 [(0, rv x0), (1, .int x1), (2, .int x2), (3, .int x3)] [] h Q := by
  unfold bX4_sign_150 at hq
  refine x_iload_n 2 dX4_sign_150 rfl ?_
  obtain ⟨g1, g2, hq⟩ := hq
  refine x_callS (Yc := YX4_single) (as := [.int x2]) (st := []) q1700 msX4_single rfl dX4_sign_151 (xle (xal1 rfl xal0) (by decide)) (xfr g1) (xlo xsw0 (by decide) g2) (xKr hq (fun x4 h3 hq e5 => ?_) (fun _ _ q _ => q))
  replace hq := hq e5
  refine x_astore (lv' := [(4, rv x4), (0, rv x0), (1, .int x1), (2, .int x2), (3, .int x3)]) dX4_sign_154 (by decide) rfl ?_
  refine xP.pick (lv' := [(0, rv x0), (1, .int x1), (2, .int x2), (3, .int x3), (4, rv x4)]) [1, 2, 3, 4, 0] rfl ?_
  exact uX4_sign_156 hq
set_option maxRecDepth 100000 in
def bX4_sign_131 (G : xG) (fr lo : Nat) (x0 : Nat) (x1 : Int32) (x2 : Int32) (x3 : Int32) (h : xH) (Q : Outcome → xH → Prop) : Prop := ((¬ x2 = 46 → bX4_sign_150 G fr lo x0 x1 x2 x3 h Q) ∧ (x2 = 46 → ((¬ x3 = 46 → bX4_sign_150 G fr lo x0 x1 x2 x3 h Q) ∧ (x3 = 46 → bX4_sign_156 G fr lo x0 x1 x2 x3 (tx G 52) h Q))))
set_option maxRecDepth 100000 in
theorem uX4_sign_131 {G : xG} {fr lo : Nat} {x0 : Nat} {x1 : Int32} {x2 : Int32} {x3 : Int32} {h : xH} {Q : Outcome → xH → Prop} (hq : bX4_sign_131 G fr lo x0 x1 x2 x3 h Q) : xP G YX4_sign fr lo 131 [(0, rv x0), (1, .int x1), (2, .int x2), (3, .int x3)] [] h Q := by
  unfold bX4_sign_131 at hq
  refine x_iload_n 2 dX4_sign_131 rfl ?_
  refine x_bipush (v := 46) dX4_sign_132 (by decide) ?_
  refine x_icmp_ne (tgt := 150) dX4_sign_134 (by decide) (fun c1 => ?_) (fun c1 => ?_)
  · replace hq := hq.1 c1
    exact uX4_sign_150 hq
  · replace hq := hq.2 c1
    refine x_iload_n 3 dX4_sign_137 rfl ?_
    refine x_bipush (v := 46) dX4_sign_138 (by decide) ?_
    refine x_icmp_ne (tgt := 150) dX4_sign_140 (by decide) (fun c2 => ?_) (fun c2 => ?_)
    · replace hq := hq.1 c2
      exact uX4_sign_150 hq
    · replace hq := hq.2 c2
      refine x_ldcS (n := 52) 52 srX4_159 dX4_sign_143 ?_
      refine x_astore (lv' := [(4, rv (tx G 52)), (0, rv x0), (1, .int x1), (2, .int x2), (3, .int x3)]) dX4_sign_145 (by decide) rfl ?_
      refine x_goto (tgt := 156) dX4_sign_147 (by decide) ?_
      refine xP.pick (lv' := [(0, rv x0), (1, .int x1), (2, .int x2), (3, .int x3), (4, rv (tx G 52))]) [1, 2, 3, 4, 0] rfl ?_
      exact uX4_sign_156 hq
set_option maxRecDepth 100000 in
def bX4_sign_112 (G : xG) (fr lo : Nat) (x0 : Nat) (x1 : Int32) (x2 : Int32) (x3 : Int32) (h : xH) (Q : Outcome → xH → Prop) : Prop := ((¬ x2 = 58 → bX4_sign_131 G fr lo x0 x1 x2 x3 h Q) ∧ (x2 = 58 → ((¬ x3 = 61 → bX4_sign_131 G fr lo x0 x1 x2 x3 h Q) ∧ (x3 = 61 → bX4_sign_156 G fr lo x0 x1 x2 x3 (tx G 51) h Q))))
set_option maxRecDepth 100000 in
theorem uX4_sign_112 {G : xG} {fr lo : Nat} {x0 : Nat} {x1 : Int32} {x2 : Int32} {x3 : Int32} {h : xH} {Q : Outcome → xH → Prop} (hq : bX4_sign_112 G fr lo x0 x1 x2 x3 h Q) : xP G YX4_sign fr lo 112 [(0, rv x0), (1, .int x1), (2, .int x2), (3, .int x3)] [] h Q := by
  unfold bX4_sign_112 at hq
  refine x_iload_n 2 dX4_sign_112 rfl ?_
  refine x_bipush (v := 58) dX4_sign_113 (by decide) ?_
  refine x_icmp_ne (tgt := 131) dX4_sign_115 (by decide) (fun c1 => ?_) (fun c1 => ?_)
  · replace hq := hq.1 c1
    exact uX4_sign_131 hq
  · replace hq := hq.2 c1
    refine x_iload_n 3 dX4_sign_118 rfl ?_
    refine x_bipush (v := 61) dX4_sign_119 (by decide) ?_
    refine x_icmp_ne (tgt := 131) dX4_sign_121 (by decide) (fun c2 => ?_) (fun c2 => ?_)
    · replace hq := hq.1 c2
      exact uX4_sign_131 hq
    · replace hq := hq.2 c2
      refine x_ldcS (n := 51) 51 srX4_157 dX4_sign_124 ?_
      refine x_astore (lv' := [(4, rv (tx G 51)), (0, rv x0), (1, .int x1), (2, .int x2), (3, .int x3)]) dX4_sign_126 (by decide) rfl ?_
      refine x_goto (tgt := 156) dX4_sign_128 (by decide) ?_
      refine xP.pick (lv' := [(0, rv x0), (1, .int x1), (2, .int x2), (3, .int x3), (4, rv (tx G 51))]) [1, 2, 3, 4, 0] rfl ?_
      exact uX4_sign_156 hq
set_option maxRecDepth 100000 in
def bX4_sign_93 (G : xG) (fr lo : Nat) (x0 : Nat) (x1 : Int32) (x2 : Int32) (x3 : Int32) (h : xH) (Q : Outcome → xH → Prop) : Prop := ((¬ x2 = 60 → bX4_sign_112 G fr lo x0 x1 x2 x3 h Q) ∧ (x2 = 60 → ((¬ x3 = 62 → bX4_sign_112 G fr lo x0 x1 x2 x3 h Q) ∧ (x3 = 62 → bX4_sign_156 G fr lo x0 x1 x2 x3 (tx G 50) h Q))))
set_option maxRecDepth 100000 in
theorem uX4_sign_93 {G : xG} {fr lo : Nat} {x0 : Nat} {x1 : Int32} {x2 : Int32} {x3 : Int32} {h : xH} {Q : Outcome → xH → Prop} (hq : bX4_sign_93 G fr lo x0 x1 x2 x3 h Q) : xP G YX4_sign fr lo 93 [(0, rv x0), (1, .int x1), (2, .int x2), (3, .int x3)] [] h Q := by
  unfold bX4_sign_93 at hq
  refine x_iload_n 2 dX4_sign_93 rfl ?_
  refine x_bipush (v := 60) dX4_sign_94 (by decide) ?_
  refine x_icmp_ne (tgt := 112) dX4_sign_96 (by decide) (fun c1 => ?_) (fun c1 => ?_)
  · replace hq := hq.1 c1
    exact uX4_sign_112 hq
  · replace hq := hq.2 c1
    refine x_iload_n 3 dX4_sign_99 rfl ?_
    refine x_bipush (v := 62) dX4_sign_100 (by decide) ?_
    refine x_icmp_ne (tgt := 112) dX4_sign_102 (by decide) (fun c2 => ?_) (fun c2 => ?_)
    · replace hq := hq.1 c2
      exact uX4_sign_112 hq
    · replace hq := hq.2 c2
      refine x_ldcS (n := 50) 50 srX4_155 dX4_sign_105 ?_
      refine x_astore (lv' := [(4, rv (tx G 50)), (0, rv x0), (1, .int x1), (2, .int x2), (3, .int x3)]) dX4_sign_107 (by decide) rfl ?_
      refine x_goto (tgt := 156) dX4_sign_109 (by decide) ?_
      refine xP.pick (lv' := [(0, rv x0), (1, .int x1), (2, .int x2), (3, .int x3), (4, rv (tx G 50))]) [1, 2, 3, 4, 0] rfl ?_
      exact uX4_sign_156 hq
set_option maxRecDepth 100000 in
def bX4_sign_74 (G : xG) (fr lo : Nat) (x0 : Nat) (x1 : Int32) (x2 : Int32) (x3 : Int32) (h : xH) (Q : Outcome → xH → Prop) : Prop := ((¬ x2 = 62 → bX4_sign_93 G fr lo x0 x1 x2 x3 h Q) ∧ (x2 = 62 → ((¬ x3 = 61 → bX4_sign_93 G fr lo x0 x1 x2 x3 h Q) ∧ (x3 = 61 → bX4_sign_156 G fr lo x0 x1 x2 x3 (tx G 49) h Q))))
set_option maxRecDepth 100000 in
theorem uX4_sign_74 {G : xG} {fr lo : Nat} {x0 : Nat} {x1 : Int32} {x2 : Int32} {x3 : Int32} {h : xH} {Q : Outcome → xH → Prop} (hq : bX4_sign_74 G fr lo x0 x1 x2 x3 h Q) : xP G YX4_sign fr lo 74 [(0, rv x0), (1, .int x1), (2, .int x2), (3, .int x3)] [] h Q := by
  unfold bX4_sign_74 at hq
  refine x_iload_n 2 dX4_sign_74 rfl ?_
  refine x_bipush (v := 62) dX4_sign_75 (by decide) ?_
  refine x_icmp_ne (tgt := 93) dX4_sign_77 (by decide) (fun c1 => ?_) (fun c1 => ?_)
  · replace hq := hq.1 c1
    exact uX4_sign_93 hq
  · replace hq := hq.2 c1
    refine x_iload_n 3 dX4_sign_80 rfl ?_
    refine x_bipush (v := 61) dX4_sign_81 (by decide) ?_
    refine x_icmp_ne (tgt := 93) dX4_sign_83 (by decide) (fun c2 => ?_) (fun c2 => ?_)
    · replace hq := hq.1 c2
      exact uX4_sign_93 hq
    · replace hq := hq.2 c2
      refine x_ldcS (n := 49) 49 srX4_153 dX4_sign_86 ?_
      refine x_astore (lv' := [(4, rv (tx G 49)), (0, rv x0), (1, .int x1), (2, .int x2), (3, .int x3)]) dX4_sign_88 (by decide) rfl ?_
      refine x_goto (tgt := 156) dX4_sign_90 (by decide) ?_
      refine xP.pick (lv' := [(0, rv x0), (1, .int x1), (2, .int x2), (3, .int x3), (4, rv (tx G 49))]) [1, 2, 3, 4, 0] rfl ?_
      exact uX4_sign_156 hq
set_option maxRecDepth 100000 in
def bX4_sign_55 (G : xG) (fr lo : Nat) (x0 : Nat) (x1 : Int32) (x2 : Int32) (x3 : Int32) (h : xH) (Q : Outcome → xH → Prop) : Prop := ((¬ x2 = 60 → bX4_sign_74 G fr lo x0 x1 x2 x3 h Q) ∧ (x2 = 60 → ((¬ x3 = 61 → bX4_sign_74 G fr lo x0 x1 x2 x3 h Q) ∧ (x3 = 61 → bX4_sign_156 G fr lo x0 x1 x2 x3 (tx G 48) h Q))))
set_option maxRecDepth 100000 in
theorem uX4_sign_55 {G : xG} {fr lo : Nat} {x0 : Nat} {x1 : Int32} {x2 : Int32} {x3 : Int32} {h : xH} {Q : Outcome → xH → Prop} (hq : bX4_sign_55 G fr lo x0 x1 x2 x3 h Q) : xP G YX4_sign fr lo 55 [(0, rv x0), (1, .int x1), (2, .int x2), (3, .int x3)] [] h Q := by
  unfold bX4_sign_55 at hq
  refine x_iload_n 2 dX4_sign_55 rfl ?_
  refine x_bipush (v := 60) dX4_sign_56 (by decide) ?_
  refine x_icmp_ne (tgt := 74) dX4_sign_58 (by decide) (fun c1 => ?_) (fun c1 => ?_)
  · replace hq := hq.1 c1
    exact uX4_sign_74 hq
  · replace hq := hq.2 c1
    refine x_iload_n 3 dX4_sign_61 rfl ?_
    refine x_bipush (v := 61) dX4_sign_62 (by decide) ?_
    refine x_icmp_ne (tgt := 74) dX4_sign_64 (by decide) (fun c2 => ?_) (fun c2 => ?_)
    · replace hq := hq.1 c2
      exact uX4_sign_74 hq
    · replace hq := hq.2 c2
      refine x_ldcS (n := 48) 48 srX4_151 dX4_sign_67 ?_
      refine x_astore (lv' := [(4, rv (tx G 48)), (0, rv x0), (1, .int x1), (2, .int x2), (3, .int x3)]) dX4_sign_69 (by decide) rfl ?_
      refine x_goto (tgt := 156) dX4_sign_71 (by decide) ?_
      refine xP.pick (lv' := [(0, rv x0), (1, .int x1), (2, .int x2), (3, .int x3), (4, rv (tx G 48))]) [1, 2, 3, 4, 0] rfl ?_
      exact uX4_sign_156 hq
set_option maxRecDepth 100000 in
def bX4_sign_36 (G : xG) (fr lo : Nat) (x0 : Nat) (x1 : Int32) (x2 : Int32) (x3 : Int32) (h : xH) (Q : Outcome → xH → Prop) : Prop := ((¬ x2 = 46 → bX4_sign_55 G fr lo x0 x1 x2 x3 h Q) ∧ (x2 = 46 → ((¬ x3 = 41 → bX4_sign_55 G fr lo x0 x1 x2 x3 h Q) ∧ (x3 = 41 → bX4_sign_156 G fr lo x0 x1 x2 x3 (tx G 47) h Q))))
set_option maxRecDepth 100000 in
theorem uX4_sign_36 {G : xG} {fr lo : Nat} {x0 : Nat} {x1 : Int32} {x2 : Int32} {x3 : Int32} {h : xH} {Q : Outcome → xH → Prop} (hq : bX4_sign_36 G fr lo x0 x1 x2 x3 h Q) : xP G YX4_sign fr lo 36 [(0, rv x0), (1, .int x1), (2, .int x2), (3, .int x3)] [] h Q := by
  unfold bX4_sign_36 at hq
  refine x_iload_n 2 dX4_sign_36 rfl ?_
  refine x_bipush (v := 46) dX4_sign_37 (by decide) ?_
  refine x_icmp_ne (tgt := 55) dX4_sign_39 (by decide) (fun c1 => ?_) (fun c1 => ?_)
  · replace hq := hq.1 c1
    exact uX4_sign_55 hq
  · replace hq := hq.2 c1
    refine x_iload_n 3 dX4_sign_42 rfl ?_
    refine x_bipush (v := 41) dX4_sign_43 (by decide) ?_
    refine x_icmp_ne (tgt := 55) dX4_sign_45 (by decide) (fun c2 => ?_) (fun c2 => ?_)
    · replace hq := hq.1 c2
      exact uX4_sign_55 hq
    · replace hq := hq.2 c2
      refine x_ldcS (n := 47) 47 srX4_149 dX4_sign_48 ?_
      refine x_astore (lv' := [(4, rv (tx G 47)), (0, rv x0), (1, .int x1), (2, .int x2), (3, .int x3)]) dX4_sign_50 (by decide) rfl ?_
      refine x_goto (tgt := 156) dX4_sign_52 (by decide) ?_
      refine xP.pick (lv' := [(0, rv x0), (1, .int x1), (2, .int x2), (3, .int x3), (4, rv (tx G 47))]) [1, 2, 3, 4, 0] rfl ?_
      exact uX4_sign_156 hq
set_option maxRecDepth 100000 in
def bX4_sign (G : xG) (fr lo : Nat) (x0 : Nat) (h : xH) (Q : Outcome → xH → Prop) : Prop := tg h x0 = 5 ∧ 1 ≤ fr ∧ 13 ≤ lo ∧ xRi G YX4_here (fr - 1) (lo - 13) [rv x0, .int 0] h (fun x5 h4 => xext h h4 → 1 ≤ fr ∧ 13 ≤ lo ∧ xRi G YX4_here (fr - 1) (lo - 13) [rv x0, .int 1] h4 (fun x11 h10 => xext h4 h10 → ((¬ x5 = 40 → bX4_sign_36 G fr lo x0 (fI h x0 1029) x5 x11 h10 Q) ∧ (x5 = 40 → ((¬ x11 = 46 → bX4_sign_36 G fr lo x0 (fI h x0 1029) x5 x11 h10 Q) ∧ (x11 = 46 → bX4_sign_156 G fr lo x0 (fI h x0 1029) x5 x11 (tx G 46) h10 Q))))) (fun r h2 => Q (.threw r) h2)) (fun r h2 => Q (.threw r) h2)
set_option maxRecDepth 100000 in
theorem uX4_sign {G : xG} {fr lo : Nat} {x0 : Nat} {h : xH} {Q : Outcome → xH → Prop} (hq : bX4_sign G fr lo x0 h Q) : xP G YX4_sign fr lo 0 [(0, rv x0)] [] h Q := by
  unfold bX4_sign at hq
  refine x_aload_n 0 dX4_sign_0 rfl ?_
  obtain ⟨g1, hq⟩ := hq
  refine x_get (v := .int (fI h x0 1029)) fdX4_36 dX4_sign_1 g1 rfl ?_
  refine x_istore_n (lv' := [(1, .int (fI h x0 1029)), (0, rv x0)]) dX4_sign_4 (by decide) (by first | rfl | (simp [rv_cat, Value.category]; done) | (simp [rv_cat, Value.category]; decide)) ?_
  refine x_aload_n 1 dX4_sign_5 rfl ?_
  refine x_iconst (v := 0) dX4_sign_6 (by decide) ?_
  obtain ⟨g2, g3, hq⟩ := hq
  refine x_callV (Yc := YX4_here) (as := [.int 0]) (st := []) q1580 mvX4_here g1 rfl dX4_sign_7 (xle (xal1 (rv_cat _) (xal1 rfl xal0)) (by decide)) (xfr g2) (xlo xsw0 (by decide) g3) (xKi hq (fun x5 h4 hq e6 => ?_) (fun _ _ q _ => q))
  replace hq := hq e6
  refine x_istore_n (lv' := [(2, .int x5), (1, .int (fI h x0 1029)), (0, rv x0)]) dX4_sign_10 (by decide) rfl ?_
  refine x_aload_n 2 dX4_sign_11 rfl ?_
  refine x_iconst (v := 1) dX4_sign_12 (by decide) ?_
  have t7 : tg h4 x0 = 5 := e6.tg g1 (by decide)
  obtain ⟨g8, g9, hq⟩ := hq
  refine x_callV (Yc := YX4_here) (as := [.int 1]) (st := []) q1580 mvX4_here t7 rfl dX4_sign_13 (xle (xal1 (rv_cat _) (xal1 rfl xal0)) (by decide)) (xfr g8) (xlo xsw0 (by decide) g9) (xKi hq (fun x11 h10 hq e12 => ?_) (fun _ _ q _ => q))
  replace hq := hq e12
  refine x_istore_n (lv' := [(3, .int x11), (2, .int x5), (1, .int (fI h x0 1029)), (0, rv x0)]) dX4_sign_16 (by decide) rfl ?_
  refine x_iload_n 1 dX4_sign_17 rfl ?_
  refine x_bipush (v := 40) dX4_sign_18 (by decide) ?_
  refine x_icmp_ne (tgt := 36) dX4_sign_20 (by decide) (fun c13 => ?_) (fun c13 => ?_)
  · replace hq := hq.1 c13
    refine xP.pick (lv' := [(0, rv x0), (1, .int (fI h x0 1029)), (2, .int x5), (3, .int x11)]) [3, 2, 1, 0] rfl ?_
    exact uX4_sign_36 hq
  · replace hq := hq.2 c13
    refine x_iload_n 0 dX4_sign_23 rfl ?_
    refine x_bipush (v := 46) dX4_sign_24 (by decide) ?_
    refine x_icmp_ne (tgt := 36) dX4_sign_26 (by decide) (fun c14 => ?_) (fun c14 => ?_)
    · replace hq := hq.1 c14
      refine xP.pick (lv' := [(0, rv x0), (1, .int (fI h x0 1029)), (2, .int x5), (3, .int x11)]) [3, 2, 1, 0] rfl ?_
      exact uX4_sign_36 hq
    · replace hq := hq.2 c14
      refine x_ldcS (n := 46) 46 srX4_147 dX4_sign_29 ?_
      refine x_astore (lv' := [(4, rv (tx G 46)), (3, .int x11), (2, .int x5), (1, .int (fI h x0 1029)), (0, rv x0)]) dX4_sign_31 (by decide) rfl ?_
      refine x_goto (tgt := 156) dX4_sign_33 (by decide) ?_
      refine xP.pick (lv' := [(0, rv x0), (1, .int (fI h x0 1029)), (2, .int x5), (3, .int x11), (4, rv (tx G 46))]) [4, 3, 2, 1, 0] rfl ?_
      exact uX4_sign_156 hq
theorem rX4_sign {G : xG} {fr lo : Nat} {x0 : Nat} {h : xH} {Q : Outcome → xH → Prop} (hq : bX4_sign G fr lo x0 h Q) : xR G YX4_sign fr lo [rv x0] h Q := by
  show xP _ _ _ _ _ (lv_args 0 _) _ _ _
  rw [show lv_args 0 [rv x0] = [(0, rv x0)] from (xla1 (rv_cat _) xla0)]
  exact uX4_sign hq
set_option maxRecDepth 100000 in
theorem dX4_single_0 : decode cX4_single 0 = .ok (.iload_n 0, 1) := by decide +kernel
set_option maxRecDepth 100000 in
theorem dX4_single_1 : decode cX4_single 1 = .ok (.tableswitch 283 40 94 #[256, 259, 241, 235, 271, 238, 268, 244, 283, 283, 283, 283, 283, 283, 283, 283, 283, 283, 277, 274, 250, 247, 253, 283, 280, 283, 283, 283, 283, 283, 283, 283, 283, 283, 283, 283, 283, 283, 283, 283, 283, 283, 283, 283, 283, 283, 283, 283, 283, 283, 283, 262, 283, 265, 280], 235) := by decide +kernel
set_option maxRecDepth 100000 in
theorem dX4_single_236 : decode cX4_single 236 = .ok (.ldc 166, 2) := by decide +kernel
set_option maxRecDepth 100000 in
theorem dX4_single_238 : decode cX4_single 238 = .ok (.areturn, 1) := by decide +kernel
set_option maxRecDepth 100000 in
theorem dX4_single_239 : decode cX4_single 239 = .ok (.ldc 168, 2) := by decide +kernel
set_option maxRecDepth 100000 in
theorem dX4_single_241 : decode cX4_single 241 = .ok (.areturn, 1) := by decide +kernel
set_option maxRecDepth 100000 in
theorem dX4_single_242 : decode cX4_single 242 = .ok (.ldc 170, 2) := by decide +kernel
set_option maxRecDepth 100000 in
theorem dX4_single_244 : decode cX4_single 244 = .ok (.areturn, 1) := by decide +kernel
set_option maxRecDepth 100000 in
theorem dX4_single_245 : decode cX4_single 245 = .ok (.ldc 172, 2) := by decide +kernel
set_option maxRecDepth 100000 in
theorem dX4_single_247 : decode cX4_single 247 = .ok (.areturn, 1) := by decide +kernel
set_option maxRecDepth 100000 in
theorem dX4_single_248 : decode cX4_single 248 = .ok (.ldc 174, 2) := by decide +kernel
set_option maxRecDepth 100000 in
theorem dX4_single_250 : decode cX4_single 250 = .ok (.areturn, 1) := by decide +kernel
set_option maxRecDepth 100000 in
theorem dX4_single_251 : decode cX4_single 251 = .ok (.ldc 176, 2) := by decide +kernel
set_option maxRecDepth 100000 in
theorem dX4_single_253 : decode cX4_single 253 = .ok (.areturn, 1) := by decide +kernel
set_option maxRecDepth 100000 in
theorem dX4_single_254 : decode cX4_single 254 = .ok (.ldc 178, 2) := by decide +kernel
set_option maxRecDepth 100000 in
theorem dX4_single_256 : decode cX4_single 256 = .ok (.areturn, 1) := by decide +kernel
set_option maxRecDepth 100000 in
theorem dX4_single_257 : decode cX4_single 257 = .ok (.ldc 180, 2) := by decide +kernel
set_option maxRecDepth 100000 in
theorem dX4_single_259 : decode cX4_single 259 = .ok (.areturn, 1) := by decide +kernel
set_option maxRecDepth 100000 in
theorem dX4_single_260 : decode cX4_single 260 = .ok (.ldc 182, 2) := by decide +kernel
set_option maxRecDepth 100000 in
theorem dX4_single_262 : decode cX4_single 262 = .ok (.areturn, 1) := by decide +kernel
set_option maxRecDepth 100000 in
theorem dX4_single_263 : decode cX4_single 263 = .ok (.ldc 147, 2) := by decide +kernel
set_option maxRecDepth 100000 in
theorem dX4_single_265 : decode cX4_single 265 = .ok (.areturn, 1) := by decide +kernel
set_option maxRecDepth 100000 in
theorem dX4_single_266 : decode cX4_single 266 = .ok (.ldc 149, 2) := by decide +kernel
set_option maxRecDepth 100000 in
theorem dX4_single_268 : decode cX4_single 268 = .ok (.areturn, 1) := by decide +kernel
set_option maxRecDepth 100000 in
theorem dX4_single_269 : decode cX4_single 269 = .ok (.ldc 184, 2) := by decide +kernel
set_option maxRecDepth 100000 in
theorem dX4_single_271 : decode cX4_single 271 = .ok (.areturn, 1) := by decide +kernel
set_option maxRecDepth 100000 in
theorem dX4_single_272 : decode cX4_single 272 = .ok (.ldc 186, 2) := by decide +kernel
set_option maxRecDepth 100000 in
theorem dX4_single_274 : decode cX4_single 274 = .ok (.areturn, 1) := by decide +kernel
set_option maxRecDepth 100000 in
theorem dX4_single_275 : decode cX4_single 275 = .ok (.ldc 188, 2) := by decide +kernel
set_option maxRecDepth 100000 in
theorem dX4_single_277 : decode cX4_single 277 = .ok (.areturn, 1) := by decide +kernel
set_option maxRecDepth 100000 in
theorem dX4_single_278 : decode cX4_single 278 = .ok (.ldc 190, 2) := by decide +kernel
set_option maxRecDepth 100000 in
theorem dX4_single_280 : decode cX4_single 280 = .ok (.areturn, 1) := by decide +kernel
set_option maxRecDepth 100000 in
theorem dX4_single_281 : decode cX4_single 281 = .ok (.ldc 192, 2) := by decide +kernel
set_option maxRecDepth 100000 in
theorem dX4_single_283 : decode cX4_single 283 = .ok (.areturn, 1) := by decide +kernel
set_option maxRecDepth 100000 in
theorem dX4_single_284 : decode cX4_single 284 = .ok (.aconst_null, 1) := by decide +kernel
set_option maxRecDepth 100000 in
theorem dX4_single_285 : decode cX4_single 285 = .ok (.areturn, 1) := by decide +kernel
set_option maxRecDepth 100000 in
def bX4_single (G : xG) (fr lo : Nat) (x0 : Int32) (h : xH) (Q : Outcome → xH → Prop) : Prop := ((x0 = 40 → Q (.returned (some (rv (tx G 60)))) h) ∧ (x0 = 41 → Q (.returned (some (rv (tx G 61)))) h) ∧ (x0 = 42 → Q (.returned (some (rv (tx G 55)))) h) ∧ (x0 = 43 → Q (.returned (some (rv (tx G 53)))) h) ∧ (x0 = 44 → Q (.returned (some (rv (tx G 63)))) h) ∧ (x0 = 45 → Q (.returned (some (rv (tx G 54)))) h) ∧ (x0 = 46 → Q (.returned (some (rv (tx G 62)))) h) ∧ (x0 = 47 → Q (.returned (some (rv (tx G 56)))) h) ∧ (x0 = 48 → Q (.returned (some (rv 0))) h) ∧ (x0 = 49 → Q (.returned (some (rv 0))) h) ∧ (x0 = 50 → Q (.returned (some (rv 0))) h) ∧ (x0 = 51 → Q (.returned (some (rv 0))) h) ∧ (x0 = 52 → Q (.returned (some (rv 0))) h) ∧ (x0 = 53 → Q (.returned (some (rv 0))) h) ∧ (x0 = 54 → Q (.returned (some (rv 0))) h) ∧ (x0 = 55 → Q (.returned (some (rv 0))) h) ∧ (x0 = 56 → Q (.returned (some (rv 0))) h) ∧ (x0 = 57 → Q (.returned (some (rv 0))) h) ∧ (x0 = 58 → Q (.returned (some (rv (tx G 65)))) h) ∧ (x0 = 59 → Q (.returned (some (rv (tx G 64)))) h) ∧ (x0 = 60 → Q (.returned (some (rv (tx G 58)))) h) ∧ (x0 = 61 → Q (.returned (some (rv (tx G 57)))) h) ∧ (x0 = 62 → Q (.returned (some (rv (tx G 59)))) h) ∧ (x0 = 63 → Q (.returned (some (rv 0))) h) ∧ (x0 = 64 → Q (.returned (some (rv (tx G 66)))) h) ∧ (x0 = 65 → Q (.returned (some (rv 0))) h) ∧ (x0 = 66 → Q (.returned (some (rv 0))) h) ∧ (x0 = 67 → Q (.returned (some (rv 0))) h) ∧ (x0 = 68 → Q (.returned (some (rv 0))) h) ∧ (x0 = 69 → Q (.returned (some (rv 0))) h) ∧ (x0 = 70 → Q (.returned (some (rv 0))) h) ∧ (x0 = 71 → Q (.returned (some (rv 0))) h) ∧ (x0 = 72 → Q (.returned (some (rv 0))) h) ∧ (x0 = 73 → Q (.returned (some (rv 0))) h) ∧ (x0 = 74 → Q (.returned (some (rv 0))) h) ∧ (x0 = 75 → Q (.returned (some (rv 0))) h) ∧ (x0 = 76 → Q (.returned (some (rv 0))) h) ∧ (x0 = 77 → Q (.returned (some (rv 0))) h) ∧ (x0 = 78 → Q (.returned (some (rv 0))) h) ∧ (x0 = 79 → Q (.returned (some (rv 0))) h) ∧ (x0 = 80 → Q (.returned (some (rv 0))) h) ∧ (x0 = 81 → Q (.returned (some (rv 0))) h) ∧ (x0 = 82 → Q (.returned (some (rv 0))) h) ∧ (x0 = 83 → Q (.returned (some (rv 0))) h) ∧ (x0 = 84 → Q (.returned (some (rv 0))) h) ∧ (x0 = 85 → Q (.returned (some (rv 0))) h) ∧ (x0 = 86 → Q (.returned (some (rv 0))) h) ∧ (x0 = 87 → Q (.returned (some (rv 0))) h) ∧ (x0 = 88 → Q (.returned (some (rv 0))) h) ∧ (x0 = 89 → Q (.returned (some (rv 0))) h) ∧ (x0 = 90 → Q (.returned (some (rv 0))) h) ∧ (x0 = 91 → Q (.returned (some (rv (tx G 46)))) h) ∧ (x0 = 92 → Q (.returned (some (rv 0))) h) ∧ (x0 = 93 → Q (.returned (some (rv (tx G 47)))) h) ∧ (x0 = 94 → Q (.returned (some (rv (tx G 66)))) h) ∧ (¬ x0 = 40 → ¬ x0 = 41 → ¬ x0 = 42 → ¬ x0 = 43 → ¬ x0 = 44 → ¬ x0 = 45 → ¬ x0 = 46 → ¬ x0 = 47 → ¬ x0 = 48 → ¬ x0 = 49 → ¬ x0 = 50 → ¬ x0 = 51 → ¬ x0 = 52 → ¬ x0 = 53 → ¬ x0 = 54 → ¬ x0 = 55 → ¬ x0 = 56 → ¬ x0 = 57 → ¬ x0 = 58 → ¬ x0 = 59 → ¬ x0 = 60 → ¬ x0 = 61 → ¬ x0 = 62 → ¬ x0 = 63 → ¬ x0 = 64 → ¬ x0 = 65 → ¬ x0 = 66 → ¬ x0 = 67 → ¬ x0 = 68 → ¬ x0 = 69 → ¬ x0 = 70 → ¬ x0 = 71 → ¬ x0 = 72 → ¬ x0 = 73 → ¬ x0 = 74 → ¬ x0 = 75 → ¬ x0 = 76 → ¬ x0 = 77 → ¬ x0 = 78 → ¬ x0 = 79 → ¬ x0 = 80 → ¬ x0 = 81 → ¬ x0 = 82 → ¬ x0 = 83 → ¬ x0 = 84 → ¬ x0 = 85 → ¬ x0 = 86 → ¬ x0 = 87 → ¬ x0 = 88 → ¬ x0 = 89 → ¬ x0 = 90 → ¬ x0 = 91 → ¬ x0 = 92 → ¬ x0 = 93 → ¬ x0 = 94 → Q (.returned (some (rv 0))) h))
set_option maxRecDepth 100000 in
theorem uX4_single {G : xG} {fr lo : Nat} {x0 : Int32} {h : xH} {Q : Outcome → xH → Prop} (hq : bX4_single G fr lo x0 h Q) : xP G YX4_single fr lo 0 [(0, .int x0)] [] h Q := by
  unfold bX4_single at hq
  refine x_iload_n 0 dX4_single_0 rfl ?_
  by_cases c1 : x0 = 40
  · replace hq := hq.1 c1
    refine x_tin (tgt := 257) (off := 256) 40 c1 dX4_single_1 (by decide) (by decide) (by decide) (by decide) ?_
    refine x_ldcS (n := 60) 60 srX4_180 dX4_single_257 ?_
    exact x_aret rfl xty_O dX4_single_259 hq
  replace hq := hq.2
  by_cases c2 : x0 = 41
  · replace hq := hq.1 c2
    refine x_tin (tgt := 260) (off := 259) 41 c2 dX4_single_1 (by decide) (by decide) (by decide) (by decide) ?_
    refine x_ldcS (n := 61) 61 srX4_182 dX4_single_260 ?_
    exact x_aret rfl xty_O dX4_single_262 hq
  replace hq := hq.2
  by_cases c3 : x0 = 42
  · replace hq := hq.1 c3
    refine x_tin (tgt := 242) (off := 241) 42 c3 dX4_single_1 (by decide) (by decide) (by decide) (by decide) ?_
    refine x_ldcS (n := 55) 55 srX4_170 dX4_single_242 ?_
    exact x_aret rfl xty_O dX4_single_244 hq
  replace hq := hq.2
  by_cases c4 : x0 = 43
  · replace hq := hq.1 c4
    refine x_tin (tgt := 236) (off := 235) 43 c4 dX4_single_1 (by decide) (by decide) (by decide) (by decide) ?_
    refine x_ldcS (n := 53) 53 srX4_166 dX4_single_236 ?_
    exact x_aret rfl xty_O dX4_single_238 hq
  replace hq := hq.2
  by_cases c5 : x0 = 44
  · replace hq := hq.1 c5
    refine x_tin (tgt := 272) (off := 271) 44 c5 dX4_single_1 (by decide) (by decide) (by decide) (by decide) ?_
    refine x_ldcS (n := 63) 63 srX4_186 dX4_single_272 ?_
    exact x_aret rfl xty_O dX4_single_274 hq
  replace hq := hq.2
  by_cases c6 : x0 = 45
  · replace hq := hq.1 c6
    refine x_tin (tgt := 239) (off := 238) 45 c6 dX4_single_1 (by decide) (by decide) (by decide) (by decide) ?_
    refine x_ldcS (n := 54) 54 srX4_168 dX4_single_239 ?_
    exact x_aret rfl xty_O dX4_single_241 hq
  replace hq := hq.2
  by_cases c7 : x0 = 46
  · replace hq := hq.1 c7
    refine x_tin (tgt := 269) (off := 268) 46 c7 dX4_single_1 (by decide) (by decide) (by decide) (by decide) ?_
    refine x_ldcS (n := 62) 62 srX4_184 dX4_single_269 ?_
    exact x_aret rfl xty_O dX4_single_271 hq
  replace hq := hq.2
  by_cases c8 : x0 = 47
  · replace hq := hq.1 c8
    refine x_tin (tgt := 245) (off := 244) 47 c8 dX4_single_1 (by decide) (by decide) (by decide) (by decide) ?_
    refine x_ldcS (n := 56) 56 srX4_172 dX4_single_245 ?_
    exact x_aret rfl xty_O dX4_single_247 hq
  replace hq := hq.2
  by_cases c9 : x0 = 48
  · replace hq := hq.1 c9
    refine x_tin (tgt := 284) (off := 283) 48 c9 dX4_single_1 (by decide) (by decide) (by decide) (by decide) ?_
    refine x_null dX4_single_284 ?_
    exact x_aret rfl xty_O dX4_single_285 hq
  replace hq := hq.2
  by_cases c10 : x0 = 49
  · replace hq := hq.1 c10
    refine x_tin (tgt := 284) (off := 283) 49 c10 dX4_single_1 (by decide) (by decide) (by decide) (by decide) ?_
    refine x_null dX4_single_284 ?_
    exact x_aret rfl xty_O dX4_single_285 hq
  replace hq := hq.2
  by_cases c11 : x0 = 50
  · replace hq := hq.1 c11
    refine x_tin (tgt := 284) (off := 283) 50 c11 dX4_single_1 (by decide) (by decide) (by decide) (by decide) ?_
    refine x_null dX4_single_284 ?_
    exact x_aret rfl xty_O dX4_single_285 hq
  replace hq := hq.2
  by_cases c12 : x0 = 51
  · replace hq := hq.1 c12
    refine x_tin (tgt := 284) (off := 283) 51 c12 dX4_single_1 (by decide) (by decide) (by decide) (by decide) ?_
    refine x_null dX4_single_284 ?_
    exact x_aret rfl xty_O dX4_single_285 hq
  replace hq := hq.2
  by_cases c13 : x0 = 52
  · replace hq := hq.1 c13
    refine x_tin (tgt := 284) (off := 283) 52 c13 dX4_single_1 (by decide) (by decide) (by decide) (by decide) ?_
    refine x_null dX4_single_284 ?_
    exact x_aret rfl xty_O dX4_single_285 hq
  replace hq := hq.2
  by_cases c14 : x0 = 53
  · replace hq := hq.1 c14
    refine x_tin (tgt := 284) (off := 283) 53 c14 dX4_single_1 (by decide) (by decide) (by decide) (by decide) ?_
    refine x_null dX4_single_284 ?_
    exact x_aret rfl xty_O dX4_single_285 hq
  replace hq := hq.2
  by_cases c15 : x0 = 54
  · replace hq := hq.1 c15
    refine x_tin (tgt := 284) (off := 283) 54 c15 dX4_single_1 (by decide) (by decide) (by decide) (by decide) ?_
    refine x_null dX4_single_284 ?_
    exact x_aret rfl xty_O dX4_single_285 hq
  replace hq := hq.2
  by_cases c16 : x0 = 55
  · replace hq := hq.1 c16
    refine x_tin (tgt := 284) (off := 283) 55 c16 dX4_single_1 (by decide) (by decide) (by decide) (by decide) ?_
    refine x_null dX4_single_284 ?_
    exact x_aret rfl xty_O dX4_single_285 hq
  replace hq := hq.2
  by_cases c17 : x0 = 56
  · replace hq := hq.1 c17
    refine x_tin (tgt := 284) (off := 283) 56 c17 dX4_single_1 (by decide) (by decide) (by decide) (by decide) ?_
    refine x_null dX4_single_284 ?_
    exact x_aret rfl xty_O dX4_single_285 hq
  replace hq := hq.2
  by_cases c18 : x0 = 57
  · replace hq := hq.1 c18
    refine x_tin (tgt := 284) (off := 283) 57 c18 dX4_single_1 (by decide) (by decide) (by decide) (by decide) ?_
    refine x_null dX4_single_284 ?_
    exact x_aret rfl xty_O dX4_single_285 hq
  replace hq := hq.2
  by_cases c19 : x0 = 58
  · replace hq := hq.1 c19
    refine x_tin (tgt := 278) (off := 277) 58 c19 dX4_single_1 (by decide) (by decide) (by decide) (by decide) ?_
    refine x_ldcS (n := 65) 65 srX4_190 dX4_single_278 ?_
    exact x_aret rfl xty_O dX4_single_280 hq
  replace hq := hq.2
  by_cases c20 : x0 = 59
  · replace hq := hq.1 c20
    refine x_tin (tgt := 275) (off := 274) 59 c20 dX4_single_1 (by decide) (by decide) (by decide) (by decide) ?_
    refine x_ldcS (n := 64) 64 srX4_188 dX4_single_275 ?_
    exact x_aret rfl xty_O dX4_single_277 hq
  replace hq := hq.2
  by_cases c21 : x0 = 60
  · replace hq := hq.1 c21
    refine x_tin (tgt := 251) (off := 250) 60 c21 dX4_single_1 (by decide) (by decide) (by decide) (by decide) ?_
    refine x_ldcS (n := 58) 58 srX4_176 dX4_single_251 ?_
    exact x_aret rfl xty_O dX4_single_253 hq
  replace hq := hq.2
  by_cases c22 : x0 = 61
  · replace hq := hq.1 c22
    refine x_tin (tgt := 248) (off := 247) 61 c22 dX4_single_1 (by decide) (by decide) (by decide) (by decide) ?_
    refine x_ldcS (n := 57) 57 srX4_174 dX4_single_248 ?_
    exact x_aret rfl xty_O dX4_single_250 hq
  replace hq := hq.2
  by_cases c23 : x0 = 62
  · replace hq := hq.1 c23
    refine x_tin (tgt := 254) (off := 253) 62 c23 dX4_single_1 (by decide) (by decide) (by decide) (by decide) ?_
    refine x_ldcS (n := 59) 59 srX4_178 dX4_single_254 ?_
    exact x_aret rfl xty_O dX4_single_256 hq
  replace hq := hq.2
  by_cases c24 : x0 = 63
  · replace hq := hq.1 c24
    refine x_tin (tgt := 284) (off := 283) 63 c24 dX4_single_1 (by decide) (by decide) (by decide) (by decide) ?_
    refine x_null dX4_single_284 ?_
    exact x_aret rfl xty_O dX4_single_285 hq
  replace hq := hq.2
  by_cases c25 : x0 = 64
  · replace hq := hq.1 c25
    refine x_tin (tgt := 281) (off := 280) 64 c25 dX4_single_1 (by decide) (by decide) (by decide) (by decide) ?_
    refine x_ldcS (n := 66) 66 srX4_192 dX4_single_281 ?_
    exact x_aret rfl xty_O dX4_single_283 hq
  replace hq := hq.2
  by_cases c26 : x0 = 65
  · replace hq := hq.1 c26
    refine x_tin (tgt := 284) (off := 283) 65 c26 dX4_single_1 (by decide) (by decide) (by decide) (by decide) ?_
    refine x_null dX4_single_284 ?_
    exact x_aret rfl xty_O dX4_single_285 hq
  replace hq := hq.2
  by_cases c27 : x0 = 66
  · replace hq := hq.1 c27
    refine x_tin (tgt := 284) (off := 283) 66 c27 dX4_single_1 (by decide) (by decide) (by decide) (by decide) ?_
    refine x_null dX4_single_284 ?_
    exact x_aret rfl xty_O dX4_single_285 hq
  replace hq := hq.2
  by_cases c28 : x0 = 67
  · replace hq := hq.1 c28
    refine x_tin (tgt := 284) (off := 283) 67 c28 dX4_single_1 (by decide) (by decide) (by decide) (by decide) ?_
    refine x_null dX4_single_284 ?_
    exact x_aret rfl xty_O dX4_single_285 hq
  replace hq := hq.2
  by_cases c29 : x0 = 68
  · replace hq := hq.1 c29
    refine x_tin (tgt := 284) (off := 283) 68 c29 dX4_single_1 (by decide) (by decide) (by decide) (by decide) ?_
    refine x_null dX4_single_284 ?_
    exact x_aret rfl xty_O dX4_single_285 hq
  replace hq := hq.2
  by_cases c30 : x0 = 69
  · replace hq := hq.1 c30
    refine x_tin (tgt := 284) (off := 283) 69 c30 dX4_single_1 (by decide) (by decide) (by decide) (by decide) ?_
    refine x_null dX4_single_284 ?_
    exact x_aret rfl xty_O dX4_single_285 hq
  replace hq := hq.2
  by_cases c31 : x0 = 70
  · replace hq := hq.1 c31
    refine x_tin (tgt := 284) (off := 283) 70 c31 dX4_single_1 (by decide) (by decide) (by decide) (by decide) ?_
    refine x_null dX4_single_284 ?_
    exact x_aret rfl xty_O dX4_single_285 hq
  replace hq := hq.2
  by_cases c32 : x0 = 71
  · replace hq := hq.1 c32
    refine x_tin (tgt := 284) (off := 283) 71 c32 dX4_single_1 (by decide) (by decide) (by decide) (by decide) ?_
    refine x_null dX4_single_284 ?_
    exact x_aret rfl xty_O dX4_single_285 hq
  replace hq := hq.2
  by_cases c33 : x0 = 72
  · replace hq := hq.1 c33
    refine x_tin (tgt := 284) (off := 283) 72 c33 dX4_single_1 (by decide) (by decide) (by decide) (by decide) ?_
    refine x_null dX4_single_284 ?_
    exact x_aret rfl xty_O dX4_single_285 hq
  replace hq := hq.2
  by_cases c34 : x0 = 73
  · replace hq := hq.1 c34
    refine x_tin (tgt := 284) (off := 283) 73 c34 dX4_single_1 (by decide) (by decide) (by decide) (by decide) ?_
    refine x_null dX4_single_284 ?_
    exact x_aret rfl xty_O dX4_single_285 hq
  replace hq := hq.2
  by_cases c35 : x0 = 74
  · replace hq := hq.1 c35
    refine x_tin (tgt := 284) (off := 283) 74 c35 dX4_single_1 (by decide) (by decide) (by decide) (by decide) ?_
    refine x_null dX4_single_284 ?_
    exact x_aret rfl xty_O dX4_single_285 hq
  replace hq := hq.2
  by_cases c36 : x0 = 75
  · replace hq := hq.1 c36
    refine x_tin (tgt := 284) (off := 283) 75 c36 dX4_single_1 (by decide) (by decide) (by decide) (by decide) ?_
    refine x_null dX4_single_284 ?_
    exact x_aret rfl xty_O dX4_single_285 hq
  replace hq := hq.2
  by_cases c37 : x0 = 76
  · replace hq := hq.1 c37
    refine x_tin (tgt := 284) (off := 283) 76 c37 dX4_single_1 (by decide) (by decide) (by decide) (by decide) ?_
    refine x_null dX4_single_284 ?_
    exact x_aret rfl xty_O dX4_single_285 hq
  replace hq := hq.2
  by_cases c38 : x0 = 77
  · replace hq := hq.1 c38
    refine x_tin (tgt := 284) (off := 283) 77 c38 dX4_single_1 (by decide) (by decide) (by decide) (by decide) ?_
    refine x_null dX4_single_284 ?_
    exact x_aret rfl xty_O dX4_single_285 hq
  replace hq := hq.2
  by_cases c39 : x0 = 78
  · replace hq := hq.1 c39
    refine x_tin (tgt := 284) (off := 283) 78 c39 dX4_single_1 (by decide) (by decide) (by decide) (by decide) ?_
    refine x_null dX4_single_284 ?_
    exact x_aret rfl xty_O dX4_single_285 hq
  replace hq := hq.2
  by_cases c40 : x0 = 79
  · replace hq := hq.1 c40
    refine x_tin (tgt := 284) (off := 283) 79 c40 dX4_single_1 (by decide) (by decide) (by decide) (by decide) ?_
    refine x_null dX4_single_284 ?_
    exact x_aret rfl xty_O dX4_single_285 hq
  replace hq := hq.2
  by_cases c41 : x0 = 80
  · replace hq := hq.1 c41
    refine x_tin (tgt := 284) (off := 283) 80 c41 dX4_single_1 (by decide) (by decide) (by decide) (by decide) ?_
    refine x_null dX4_single_284 ?_
    exact x_aret rfl xty_O dX4_single_285 hq
  replace hq := hq.2
  by_cases c42 : x0 = 81
  · replace hq := hq.1 c42
    refine x_tin (tgt := 284) (off := 283) 81 c42 dX4_single_1 (by decide) (by decide) (by decide) (by decide) ?_
    refine x_null dX4_single_284 ?_
    exact x_aret rfl xty_O dX4_single_285 hq
  replace hq := hq.2
  by_cases c43 : x0 = 82
  · replace hq := hq.1 c43
    refine x_tin (tgt := 284) (off := 283) 82 c43 dX4_single_1 (by decide) (by decide) (by decide) (by decide) ?_
    refine x_null dX4_single_284 ?_
    exact x_aret rfl xty_O dX4_single_285 hq
  replace hq := hq.2
  by_cases c44 : x0 = 83
  · replace hq := hq.1 c44
    refine x_tin (tgt := 284) (off := 283) 83 c44 dX4_single_1 (by decide) (by decide) (by decide) (by decide) ?_
    refine x_null dX4_single_284 ?_
    exact x_aret rfl xty_O dX4_single_285 hq
  replace hq := hq.2
  by_cases c45 : x0 = 84
  · replace hq := hq.1 c45
    refine x_tin (tgt := 284) (off := 283) 84 c45 dX4_single_1 (by decide) (by decide) (by decide) (by decide) ?_
    refine x_null dX4_single_284 ?_
    exact x_aret rfl xty_O dX4_single_285 hq
  replace hq := hq.2
  by_cases c46 : x0 = 85
  · replace hq := hq.1 c46
    refine x_tin (tgt := 284) (off := 283) 85 c46 dX4_single_1 (by decide) (by decide) (by decide) (by decide) ?_
    refine x_null dX4_single_284 ?_
    exact x_aret rfl xty_O dX4_single_285 hq
  replace hq := hq.2
  by_cases c47 : x0 = 86
  · replace hq := hq.1 c47
    refine x_tin (tgt := 284) (off := 283) 86 c47 dX4_single_1 (by decide) (by decide) (by decide) (by decide) ?_
    refine x_null dX4_single_284 ?_
    exact x_aret rfl xty_O dX4_single_285 hq
  replace hq := hq.2
  by_cases c48 : x0 = 87
  · replace hq := hq.1 c48
    refine x_tin (tgt := 284) (off := 283) 87 c48 dX4_single_1 (by decide) (by decide) (by decide) (by decide) ?_
    refine x_null dX4_single_284 ?_
    exact x_aret rfl xty_O dX4_single_285 hq
  replace hq := hq.2
  by_cases c49 : x0 = 88
  · replace hq := hq.1 c49
    refine x_tin (tgt := 284) (off := 283) 88 c49 dX4_single_1 (by decide) (by decide) (by decide) (by decide) ?_
    refine x_null dX4_single_284 ?_
    exact x_aret rfl xty_O dX4_single_285 hq
  replace hq := hq.2
  by_cases c50 : x0 = 89
  · replace hq := hq.1 c50
    refine x_tin (tgt := 284) (off := 283) 89 c50 dX4_single_1 (by decide) (by decide) (by decide) (by decide) ?_
    refine x_null dX4_single_284 ?_
    exact x_aret rfl xty_O dX4_single_285 hq
  replace hq := hq.2
  by_cases c51 : x0 = 90
  · replace hq := hq.1 c51
    refine x_tin (tgt := 284) (off := 283) 90 c51 dX4_single_1 (by decide) (by decide) (by decide) (by decide) ?_
    refine x_null dX4_single_284 ?_
    exact x_aret rfl xty_O dX4_single_285 hq
  replace hq := hq.2
  by_cases c52 : x0 = 91
  · replace hq := hq.1 c52
    refine x_tin (tgt := 263) (off := 262) 91 c52 dX4_single_1 (by decide) (by decide) (by decide) (by decide) ?_
    refine x_ldcS (n := 46) 46 srX4_147 dX4_single_263 ?_
    exact x_aret rfl xty_O dX4_single_265 hq
  replace hq := hq.2
  by_cases c53 : x0 = 92
  · replace hq := hq.1 c53
    refine x_tin (tgt := 284) (off := 283) 92 c53 dX4_single_1 (by decide) (by decide) (by decide) (by decide) ?_
    refine x_null dX4_single_284 ?_
    exact x_aret rfl xty_O dX4_single_285 hq
  replace hq := hq.2
  by_cases c54 : x0 = 93
  · replace hq := hq.1 c54
    refine x_tin (tgt := 266) (off := 265) 93 c54 dX4_single_1 (by decide) (by decide) (by decide) (by decide) ?_
    refine x_ldcS (n := 47) 47 srX4_149 dX4_single_266 ?_
    exact x_aret rfl xty_O dX4_single_268 hq
  replace hq := hq.2
  by_cases c55 : x0 = 94
  · replace hq := hq.1 c55
    refine x_tin (tgt := 281) (off := 280) 94 c55 dX4_single_1 (by decide) (by decide) (by decide) (by decide) ?_
    refine x_ldcS (n := 66) 66 srX4_192 dX4_single_281 ?_
    exact x_aret rfl xty_O dX4_single_283 hq
  replace hq := hq.2
  replace hq := hq c1 c2 c3 c4 c5 c6 c7 c8 c9 c10 c11 c12 c13 c14 c15 c16 c17 c18 c19 c20 c21 c22 c23 c24 c25 c26 c27 c28 c29 c30 c31 c32 c33 c34 c35 c36 c37 c38 c39 c40 c41 c42 c43 c44 c45 c46 c47 c48 c49 c50 c51 c52 c53 c54 c55
  have nc1 := lv_neT c1 (show (40 : Int32).toInt = 40 from by decide)
  have nc2 := lv_neT c2 (show (41 : Int32).toInt = 41 from by decide)
  have nc3 := lv_neT c3 (show (42 : Int32).toInt = 42 from by decide)
  have nc4 := lv_neT c4 (show (43 : Int32).toInt = 43 from by decide)
  have nc5 := lv_neT c5 (show (44 : Int32).toInt = 44 from by decide)
  have nc6 := lv_neT c6 (show (45 : Int32).toInt = 45 from by decide)
  have nc7 := lv_neT c7 (show (46 : Int32).toInt = 46 from by decide)
  have nc8 := lv_neT c8 (show (47 : Int32).toInt = 47 from by decide)
  have nc9 := lv_neT c9 (show (48 : Int32).toInt = 48 from by decide)
  have nc10 := lv_neT c10 (show (49 : Int32).toInt = 49 from by decide)
  have nc11 := lv_neT c11 (show (50 : Int32).toInt = 50 from by decide)
  have nc12 := lv_neT c12 (show (51 : Int32).toInt = 51 from by decide)
  have nc13 := lv_neT c13 (show (52 : Int32).toInt = 52 from by decide)
  have nc14 := lv_neT c14 (show (53 : Int32).toInt = 53 from by decide)
  have nc15 := lv_neT c15 (show (54 : Int32).toInt = 54 from by decide)
  have nc16 := lv_neT c16 (show (55 : Int32).toInt = 55 from by decide)
  have nc17 := lv_neT c17 (show (56 : Int32).toInt = 56 from by decide)
  have nc18 := lv_neT c18 (show (57 : Int32).toInt = 57 from by decide)
  have nc19 := lv_neT c19 (show (58 : Int32).toInt = 58 from by decide)
  have nc20 := lv_neT c20 (show (59 : Int32).toInt = 59 from by decide)
  have nc21 := lv_neT c21 (show (60 : Int32).toInt = 60 from by decide)
  have nc22 := lv_neT c22 (show (61 : Int32).toInt = 61 from by decide)
  have nc23 := lv_neT c23 (show (62 : Int32).toInt = 62 from by decide)
  have nc24 := lv_neT c24 (show (63 : Int32).toInt = 63 from by decide)
  have nc25 := lv_neT c25 (show (64 : Int32).toInt = 64 from by decide)
  have nc26 := lv_neT c26 (show (65 : Int32).toInt = 65 from by decide)
  have nc27 := lv_neT c27 (show (66 : Int32).toInt = 66 from by decide)
  have nc28 := lv_neT c28 (show (67 : Int32).toInt = 67 from by decide)
  have nc29 := lv_neT c29 (show (68 : Int32).toInt = 68 from by decide)
  have nc30 := lv_neT c30 (show (69 : Int32).toInt = 69 from by decide)
  have nc31 := lv_neT c31 (show (70 : Int32).toInt = 70 from by decide)
  have nc32 := lv_neT c32 (show (71 : Int32).toInt = 71 from by decide)
  have nc33 := lv_neT c33 (show (72 : Int32).toInt = 72 from by decide)
  have nc34 := lv_neT c34 (show (73 : Int32).toInt = 73 from by decide)
  have nc35 := lv_neT c35 (show (74 : Int32).toInt = 74 from by decide)
  have nc36 := lv_neT c36 (show (75 : Int32).toInt = 75 from by decide)
  have nc37 := lv_neT c37 (show (76 : Int32).toInt = 76 from by decide)
  have nc38 := lv_neT c38 (show (77 : Int32).toInt = 77 from by decide)
  have nc39 := lv_neT c39 (show (78 : Int32).toInt = 78 from by decide)
  have nc40 := lv_neT c40 (show (79 : Int32).toInt = 79 from by decide)
  have nc41 := lv_neT c41 (show (80 : Int32).toInt = 80 from by decide)
  have nc42 := lv_neT c42 (show (81 : Int32).toInt = 81 from by decide)
  have nc43 := lv_neT c43 (show (82 : Int32).toInt = 82 from by decide)
  have nc44 := lv_neT c44 (show (83 : Int32).toInt = 83 from by decide)
  have nc45 := lv_neT c45 (show (84 : Int32).toInt = 84 from by decide)
  have nc46 := lv_neT c46 (show (85 : Int32).toInt = 85 from by decide)
  have nc47 := lv_neT c47 (show (86 : Int32).toInt = 86 from by decide)
  have nc48 := lv_neT c48 (show (87 : Int32).toInt = 87 from by decide)
  have nc49 := lv_neT c49 (show (88 : Int32).toInt = 88 from by decide)
  have nc50 := lv_neT c50 (show (89 : Int32).toInt = 89 from by decide)
  have nc51 := lv_neT c51 (show (90 : Int32).toInt = 90 from by decide)
  have nc52 := lv_neT c52 (show (91 : Int32).toInt = 91 from by decide)
  have nc53 := lv_neT c53 (show (92 : Int32).toInt = 92 from by decide)
  have nc54 := lv_neT c54 (show (93 : Int32).toInt = 93 from by decide)
  have nc55 := lv_neT c55 (show (94 : Int32).toInt = 94 from by decide)
  refine x_tout (tgt := 284) dX4_single_1 (by omega) (by decide) ?_
  refine x_null dX4_single_284 ?_
  exact x_aret rfl xty_O dX4_single_285 hq
theorem rX4_single {G : xG} {fr lo : Nat} {x0 : Int32} {h : xH} {Q : Outcome → xH → Prop} (hq : bX4_single G fr lo x0 h Q) : xR G YX4_single fr lo [.int x0] h Q := by
  show xP _ _ _ _ _ (lv_args 0 _) _ _ _
  rw [show lv_args 0 [.int x0] = [(0, .int x0)] from (xla1 rfl xla0)]
  exact uX4_single hq
