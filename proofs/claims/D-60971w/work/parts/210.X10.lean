/-! PascalHouse$Memory, walked (1) -/
set_option maxRecDepth 100000 in
theorem dX10_init_0 : decode cX10_init 0 = .ok (.aload_n 0, 1) := by decide +kernel
set_option maxRecDepth 100000 in
theorem dX10_init_1 : decode cX10_init 1 = .ok (.invokespecial 3, 3) := by decide +kernel
set_option maxRecDepth 100000 in
theorem dX10_init_4 : decode cX10_init 4 = .ok (.aload_n 0, 1) := by decide +kernel
set_option maxRecDepth 100000 in
theorem dX10_init_5 : decode cX10_init 5 = .ok (.ldc 9, 2) := by decide +kernel
set_option maxRecDepth 100000 in
theorem dX10_init_7 : decode cX10_init 7 = .ok (.newarray .long, 2) := by decide +kernel
set_option maxRecDepth 100000 in
theorem dX10_init_9 : decode cX10_init 9 = .ok (.putfield 10, 3) := by decide +kernel
set_option maxRecDepth 100000 in
theorem dX10_init_12 : decode cX10_init 12 = .ok (.aload_n 0, 1) := by decide +kernel
set_option maxRecDepth 100000 in
theorem dX10_init_13 : decode cX10_init 13 = .ok (.ldc 9, 2) := by decide +kernel
set_option maxRecDepth 100000 in
theorem dX10_init_15 : decode cX10_init 15 = .ok (.newarray .long, 2) := by decide +kernel
set_option maxRecDepth 100000 in
theorem dX10_init_17 : decode cX10_init 17 = .ok (.putfield 16, 3) := by decide +kernel
set_option maxRecDepth 100000 in
theorem dX10_init_20 : decode cX10_init 20 = .ok (.aload_n 0, 1) := by decide +kernel
set_option maxRecDepth 100000 in
theorem dX10_init_21 : decode cX10_init 21 = .ok (.ldc 9, 2) := by decide +kernel
set_option maxRecDepth 100000 in
theorem dX10_init_23 : decode cX10_init 23 = .ok (.newarray .double, 2) := by decide +kernel
set_option maxRecDepth 100000 in
theorem dX10_init_25 : decode cX10_init 25 = .ok (.putfield 19, 3) := by decide +kernel
set_option maxRecDepth 100000 in
theorem dX10_init_28 : decode cX10_init 28 = .ok (.aload_n 0, 1) := by decide +kernel
set_option maxRecDepth 100000 in
theorem dX10_init_29 : decode cX10_init 29 = .ok (.ldc 9, 2) := by decide +kernel
set_option maxRecDepth 100000 in
theorem dX10_init_31 : decode cX10_init 31 = .ok (.newarray .boolean, 2) := by decide +kernel
set_option maxRecDepth 100000 in
theorem dX10_init_33 : decode cX10_init 33 = .ok (.putfield 23, 3) := by decide +kernel
set_option maxRecDepth 100000 in
theorem dX10_init_36 : decode cX10_init 36 = .ok (.return_, 1) := by decide +kernel
set_option maxRecDepth 100000 in
def bX10_init (G : xG) (fr lo : Nat) (x0 : Nat) (h : xH) (Q : Outcome → xH → Prop) : Prop := tg h x0 = 11 ∧ 1 ≤ fr ∧ 12 ≤ lo ∧ nx h + 1 ≤ xGN G ∧ us h + (Int32.toNatClampNeg 40000) ≤ xGU G ∧ (∀ (a6 : Nat) (h7 : xH), a6 = nx h + 1 → h7 = nA h 101 (Int32.toNatClampNeg 40000) → xfresh h a6 → (∀ h13 : xH, h13 = sR h7 x0 2560 a6 → nx h13 + 1 ≤ xGN G ∧ us h13 + (Int32.toNatClampNeg 40000) ≤ xGU G ∧ (∀ (a17 : Nat) (h18 : xH), a17 = nx h13 + 1 → h18 = nA h13 101 (Int32.toNatClampNeg 40000) → xfresh h13 a17 → (∀ h25 : xH, h25 = sR h18 x0 2561 a17 → nx h25 + 1 ≤ xGN G ∧ us h25 + (Int32.toNatClampNeg 40000) ≤ xGU G ∧ (∀ (a29 : Nat) (h30 : xH), a29 = nx h25 + 1 → h30 = nA h25 102 (Int32.toNatClampNeg 40000) → xfresh h25 a29 → (∀ h37 : xH, h37 = sR h30 x0 2562 a29 → nx h37 + 1 ≤ xGN G ∧ us h37 + (Int32.toNatClampNeg 40000) ≤ xGU G ∧ (∀ (a41 : Nat) (h42 : xH), a41 = nx h37 + 1 → h42 = nA h37 104 (Int32.toNatClampNeg 40000) → xfresh h37 a41 → (∀ h49 : xH, h49 = sR h42 x0 2563 a41 → Q (.returned none) h49))))))))
set_option maxRecDepth 100000 in
theorem uX10_init {G : xG} {fr lo : Nat} {x0 : Nat} {h : xH} {Q : Outcome → xH → Prop} (hq : bX10_init G fr lo x0 h Q) : xP G YX10_init fr lo 0 [(0, rv x0)] [] h Q := by
  unfold bX10_init at hq
  refine x_aload_n 0 dX10_init_0 rfl ?_
  obtain ⟨g1, hq⟩ := hq
  obtain ⟨g2, g3, hq⟩ := hq
  refine x_objInit (by rw [g1]; decide) q1207 q438 q439 dX10_init_1 g2 (by simp only [List.map_cons, List.map_nil, List.sum_cons, List.sum_nil, rv_cat, Value.category]; omega) ?_
  refine x_aload_n 0 dX10_init_4 rfl ?_
  refine x_ldc (v := 40000) q1208 dX10_init_5 ?_
  obtain ⟨g4, g5, hq⟩ := hq
  obtain ⟨a6, e8⟩ : ∃ y, y = nx h + 1 := ⟨_, rfl⟩
  obtain ⟨h7, e9⟩ : ∃ y, y = nA h 101 (Int32.toNatClampNeg 40000) := ⟨_, rfl⟩
  refine x_newa' 1 pk_long dX10_init_7 (by decide) (by decide) g4 g5 e8 e9 (fun f10 => ?_)
  replace hq := hq a6 h7 e8 e9 f10
  have t11 : tg h7 a6 = 101 := by rw [e9, e8]; exact tg_nA
  have t12 : tg h7 x0 = 11 := by rw [e9]; exact tg_nA_ne e8 f10 g1 (by decide)
  obtain ⟨h13, e14⟩ : ∃ y, y = sR h7 x0 2560 a6 := ⟨_, rfl⟩
  replace hq := hq h13 e14
  refine x_putFR fdX10_10 owX10_init_0 xty_A dX10_init_9 t12 (Or.inl (by rw [t12]; rfl)) rfl e14 ?_
  refine x_aload_n 0 dX10_init_12 rfl ?_
  refine x_ldc (v := 40000) q1208 dX10_init_13 ?_
  obtain ⟨g15, g16, hq⟩ := hq
  obtain ⟨a17, e19⟩ : ∃ y, y = nx h13 + 1 := ⟨_, rfl⟩
  obtain ⟨h18, e20⟩ : ∃ y, y = nA h13 101 (Int32.toNatClampNeg 40000) := ⟨_, rfl⟩
  refine x_newa' 1 pk_long dX10_init_15 (by decide) (by decide) g15 g16 e19 e20 (fun f21 => ?_)
  replace hq := hq a17 h18 e19 e20 f21
  have t22 : tg h18 a17 = 101 := by rw [e20, e19]; exact tg_nA
  have t23 : tg h13 x0 = 11 := by rw [e14]; exact t12
  have t24 : tg h18 x0 = 11 := by rw [e20]; exact tg_nA_ne e19 f21 t23 (by decide)
  obtain ⟨h25, e26⟩ : ∃ y, y = sR h18 x0 2561 a17 := ⟨_, rfl⟩
  replace hq := hq h25 e26
  refine x_putFR fdX10_16 owX10_init_1 xty_A dX10_init_17 t24 (Or.inl (by rw [t24]; rfl)) rfl e26 ?_
  refine x_aload_n 0 dX10_init_20 rfl ?_
  refine x_ldc (v := 40000) q1208 dX10_init_21 ?_
  obtain ⟨g27, g28, hq⟩ := hq
  obtain ⟨a29, e31⟩ : ∃ y, y = nx h25 + 1 := ⟨_, rfl⟩
  obtain ⟨h30, e32⟩ : ∃ y, y = nA h25 102 (Int32.toNatClampNeg 40000) := ⟨_, rfl⟩
  refine x_newa' 2 pk_double dX10_init_23 (by decide) (by decide) g27 g28 e31 e32 (fun f33 => ?_)
  replace hq := hq a29 h30 e31 e32 f33
  have t34 : tg h30 a29 = 102 := by rw [e32, e31]; exact tg_nA
  have t35 : tg h25 x0 = 11 := by rw [e26]; exact t24
  have t36 : tg h30 x0 = 11 := by rw [e32]; exact tg_nA_ne e31 f33 t35 (by decide)
  obtain ⟨h37, e38⟩ : ∃ y, y = sR h30 x0 2562 a29 := ⟨_, rfl⟩
  replace hq := hq h37 e38
  refine x_putFR fdX10_19 owX10_init_2 xty_A dX10_init_25 t36 (Or.inl (by rw [t36]; rfl)) rfl e38 ?_
  refine x_aload_n 0 dX10_init_28 rfl ?_
  refine x_ldc (v := 40000) q1208 dX10_init_29 ?_
  obtain ⟨g39, g40, hq⟩ := hq
  obtain ⟨a41, e43⟩ : ∃ y, y = nx h37 + 1 := ⟨_, rfl⟩
  obtain ⟨h42, e44⟩ : ∃ y, y = nA h37 104 (Int32.toNatClampNeg 40000) := ⟨_, rfl⟩
  refine x_newa' 4 pk_boolean dX10_init_31 (by decide) (by decide) g39 g40 e43 e44 (fun f45 => ?_)
  replace hq := hq a41 h42 e43 e44 f45
  have t46 : tg h42 a41 = 104 := by rw [e44, e43]; exact tg_nA
  have t47 : tg h37 x0 = 11 := by rw [e38]; exact t36
  have t48 : tg h42 x0 = 11 := by rw [e44]; exact tg_nA_ne e43 f45 t47 (by decide)
  obtain ⟨h49, e50⟩ : ∃ y, y = sR h42 x0 2563 a41 := ⟨_, rfl⟩
  replace hq := hq h49 e50
  refine x_putFR fdX10_23 owX10_init_3 xty_A dX10_init_33 t48 (Or.inl (by rw [t48]; rfl)) rfl e50 ?_
  exact x_vret rfl dX10_init_36 hq
theorem rX10_init {G : xG} {fr lo : Nat} {x0 : Nat} {h : xH} {Q : Outcome → xH → Prop} (hq : bX10_init G fr lo x0 h Q) : xR G YX10_init fr lo [rv x0] h Q := by
  show xP _ _ _ _ _ (lv_args 0 _) _ _ _
  rw [show lv_args 0 [rv x0] = [(0, rv x0)] from (xla1 (rv_cat _) xla0)]
  exact uX10_init hq
set_option maxRecDepth 100000 in
theorem dX10_set_0 : decode cX10_set 0 = .ok (.aload_n 0, 1) := by decide +kernel
set_option maxRecDepth 100000 in
theorem dX10_set_1 : decode cX10_set 1 = .ok (.getfield 10, 3) := by decide +kernel
set_option maxRecDepth 100000 in
theorem dX10_set_4 : decode cX10_set 4 = .ok (.iload_n 1, 1) := by decide +kernel
set_option maxRecDepth 100000 in
theorem dX10_set_5 : decode cX10_set 5 = .ok (.lload_n 2, 1) := by decide +kernel
set_option maxRecDepth 100000 in
theorem dX10_set_6 : decode cX10_set 6 = .ok (.lastore, 1) := by decide +kernel
set_option maxRecDepth 100000 in
theorem dX10_set_7 : decode cX10_set 7 = .ok (.aload_n 0, 1) := by decide +kernel
set_option maxRecDepth 100000 in
theorem dX10_set_8 : decode cX10_set 8 = .ok (.getfield 23, 3) := by decide +kernel
set_option maxRecDepth 100000 in
theorem dX10_set_11 : decode cX10_set 11 = .ok (.iload_n 1, 1) := by decide +kernel
set_option maxRecDepth 100000 in
theorem dX10_set_12 : decode cX10_set 12 = .ok (.iconst 1, 1) := by decide +kernel
set_option maxRecDepth 100000 in
theorem dX10_set_13 : decode cX10_set 13 = .ok (.bastore, 1) := by decide +kernel
set_option maxRecDepth 100000 in
theorem dX10_set_14 : decode cX10_set 14 = .ok (.return_, 1) := by decide +kernel
set_option maxRecDepth 100000 in
def bX10_set (G : xG) (fr lo : Nat) (x0 : Nat) (x1 : Int32) (x2 : Int64) (h : xH) (Q : Outcome → xH → Prop) : Prop := tg h x0 = 11 ∧ tg h (fR h x0 2560) = 101 ∧ vp_in x1 (ln h (fR h x0 2560)) ∧ (∀ h4 : xH, h4 = tJ h (fR h x0 2560) (Int32.toNatClampNeg x1) x2 → tg h4 (fR h4 x0 2563) = 104 ∧ vp_in x1 (ln h4 (fR h4 x0 2563)) ∧ (∀ h9 : xH, h9 = tI h4 (fR h4 x0 2563) (Int32.toNatClampNeg x1) (vp_nar .boolean 1) → Q (.returned none) h9))
set_option maxRecDepth 100000 in
theorem uX10_set {G : xG} {fr lo : Nat} {x0 : Nat} {x1 : Int32} {x2 : Int64} {h : xH} {Q : Outcome → xH → Prop} (hq : bX10_set G fr lo x0 x1 x2 h Q) : xP G YX10_set fr lo 0 [(0, rv x0), (1, .int x1), (2, .long x2)] [] h Q := by
  unfold bX10_set at hq
  refine x_aload_n 0 dX10_set_0 rfl ?_
  obtain ⟨g1, hq⟩ := hq
  refine x_get (v := rv (fR h x0 2560)) fdX10_10 dX10_set_1 g1 rfl ?_
  refine x_iload_n 1 dX10_set_4 rfl ?_
  refine x_lload_n 2 dX10_set_5 rfl ?_
  obtain ⟨g2, hq⟩ := hq
  obtain ⟨i3, hq⟩ := hq
  obtain ⟨h4, e5⟩ : ∃ y, y = tJ h (fR h x0 2560) (Int32.toNatClampNeg x1) x2 := ⟨_, rfl⟩
  replace hq := hq h4 e5
  refine x_last' g2 i3 dX10_set_6 e5 ?_
  refine x_aload_n 0 dX10_set_7 rfl ?_
  have t6 : tg h4 x0 = 11 := by rw [e5]; exact g1
  refine x_get (v := rv (fR h4 x0 2563)) fdX10_23 dX10_set_8 t6 rfl ?_
  refine x_iload_n 1 dX10_set_11 rfl ?_
  refine x_iconst (v := 1) dX10_set_12 (by decide) ?_
  obtain ⟨g7, hq⟩ := hq
  obtain ⟨i8, hq⟩ := hq
  obtain ⟨h9, e10⟩ : ∃ y, y = tI h4 (fR h4 x0 2563) (Int32.toNatClampNeg x1) (vp_nar .boolean 1) := ⟨_, rfl⟩
  replace hq := hq h9 e10
  refine x_zast' g7 i8 dX10_set_13 e10 ?_
  exact x_vret rfl dX10_set_14 hq
theorem rX10_set {G : xG} {fr lo : Nat} {x0 : Nat} {x1 : Int32} {x2 : Int64} {h : xH} {Q : Outcome → xH → Prop} (hq : bX10_set G fr lo x0 x1 x2 h Q) : xR G YX10_set fr lo [rv x0, .int x1, .long x2] h Q := by
  show xP _ _ _ _ _ (lv_args 0 _) _ _ _
  rw [show lv_args 0 [rv x0, .int x1, .long x2] = [(0, rv x0), (1, .int x1), (2, .long x2)] from (xla1 (rv_cat _) (xla1 rfl (xla2 rfl xla0)))]
  exact uX10_set hq
set_option maxRecDepth 100000 in
theorem dX10_forget_0 : decode cX10_forget 0 = .ok (.iload_n 1, 1) := by decide +kernel
set_option maxRecDepth 100000 in
theorem dX10_forget_1 : decode cX10_forget 1 = .ok (.istore_n 3, 1) := by decide +kernel
set_option maxRecDepth 100000 in
theorem dX10_forget_2 : decode cX10_forget 2 = .ok (.iload_n 3, 1) := by decide +kernel
set_option maxRecDepth 100000 in
theorem dX10_forget_3 : decode cX10_forget 3 = .ok (.iload_n 2, 1) := by decide +kernel
set_option maxRecDepth 100000 in
theorem dX10_forget_4 : decode cX10_forget 4 = .ok (.if_icmp .ge 16, 3) := by decide +kernel
set_option maxRecDepth 100000 in
theorem dX10_forget_7 : decode cX10_forget 7 = .ok (.aload_n 0, 1) := by decide +kernel
set_option maxRecDepth 100000 in
theorem dX10_forget_8 : decode cX10_forget 8 = .ok (.getfield 23, 3) := by decide +kernel
set_option maxRecDepth 100000 in
theorem dX10_forget_11 : decode cX10_forget 11 = .ok (.iload_n 3, 1) := by decide +kernel
set_option maxRecDepth 100000 in
theorem dX10_forget_12 : decode cX10_forget 12 = .ok (.iconst 0, 1) := by decide +kernel
set_option maxRecDepth 100000 in
theorem dX10_forget_13 : decode cX10_forget 13 = .ok (.bastore, 1) := by decide +kernel
set_option maxRecDepth 100000 in
theorem dX10_forget_14 : decode cX10_forget 14 = .ok (.iinc 3 1, 3) := by decide +kernel
set_option maxRecDepth 100000 in
theorem dX10_forget_17 : decode cX10_forget 17 = .ok (.goto (-15), 3) := by decide +kernel
set_option maxRecDepth 100000 in
theorem dX10_forget_20 : decode cX10_forget 20 = .ok (.return_, 1) := by decide +kernel
def lX10_forget_2 (G : xG) (fr lo : Nat) (x0 : Nat) (x2 : Int32) (x3 : Int32) (h : xH) (Q : Outcome → xH → Prop) : Prop := xP G YX10_forget fr lo 2 [(0, rv x0), (2, .int x2), (3, .int x3)] [] h Q
set_option maxRecDepth 100000 in
def bX10_forget_2 (G : xG) (fr lo : Nat) (x0 : Nat) (x2 : Int32) (x3 : Int32) (h : xH) (Q : Outcome → xH → Prop) : Prop := ((x2 ≤ x3 → Q (.returned none) h) ∧ (¬ x2 ≤ x3 → tg h x0 = 11 ∧ tg h (fR h x0 2563) = 104 ∧ vp_in x3 (ln h (fR h x0 2563)) ∧ (∀ h5 : xH, h5 = tI h (fR h x0 2563) (Int32.toNatClampNeg x3) (vp_nar .boolean 0) → lX10_forget_2 G fr lo x0 x2 (x3 + 1) h5 Q)))
set_option maxRecDepth 100000 in
theorem uX10_forget_2 {G : xG} {fr lo : Nat} {x0 : Nat} {x2 : Int32} {x3 : Int32} {h : xH} {Q : Outcome → xH → Prop} (hq : bX10_forget_2 G fr lo x0 x2 x3 h Q) : xP G YX10_forget fr lo 2 [(0, rv x0), (2, .int x2), (3, .int x3)] [] h Q := by
  unfold bX10_forget_2 at hq
  refine x_iload_n 2 dX10_forget_2 rfl ?_
  refine x_iload_n 1 dX10_forget_3 rfl ?_
  refine x_icmp_ge (tgt := 20) dX10_forget_4 (by decide) (fun c1 => ?_) (fun c1 => ?_)
  · replace hq := hq.1 c1
    exact x_vret rfl dX10_forget_20 hq
  · replace hq := hq.2 c1
    refine x_aload_n 0 dX10_forget_7 rfl ?_
    obtain ⟨g2, hq⟩ := hq
    refine x_get (v := rv (fR h x0 2563)) fdX10_23 dX10_forget_8 g2 rfl ?_
    refine x_iload_n 2 dX10_forget_11 rfl ?_
    refine x_iconst (v := 0) dX10_forget_12 (by decide) ?_
    obtain ⟨g3, hq⟩ := hq
    obtain ⟨i4, hq⟩ := hq
    obtain ⟨h5, e6⟩ : ∃ y, y = tI h (fR h x0 2563) (Int32.toNatClampNeg x3) (vp_nar .boolean 0) := ⟨_, rfl⟩
    replace hq := hq h5 e6
    refine x_zast' g3 i4 dX10_forget_13 e6 ?_
    refine x_iinc (lv' := [(3, .int (x3 + 1)), (0, rv x0), (2, .int x2)]) 2 dX10_forget_14 rfl (by decide) rfl ?_
    refine x_goto (tgt := 2) dX10_forget_17 (by decide) ?_
    refine xP.pick (lv' := [(0, rv x0), (2, .int x2), (3, .int (x3 + 1))]) [1, 2, 0] rfl ?_
    exact hq
set_option maxRecDepth 100000 in
def bX10_forget (G : xG) (fr lo : Nat) (x0 : Nat) (x1 : Int32) (x2 : Int32) (h : xH) (Q : Outcome → xH → Prop) : Prop := lX10_forget_2 G fr lo x0 x2 x1 h Q
set_option maxRecDepth 100000 in
theorem uX10_forget {G : xG} {fr lo : Nat} {x0 : Nat} {x1 : Int32} {x2 : Int32} {h : xH} {Q : Outcome → xH → Prop} (hq : bX10_forget G fr lo x0 x1 x2 h Q) : xP G YX10_forget fr lo 0 [(0, rv x0), (1, .int x1), (2, .int x2)] [] h Q := by
  unfold bX10_forget at hq
  refine x_iload_n 1 dX10_forget_0 rfl ?_
  refine x_istore_n (lv' := [(3, .int x1), (0, rv x0), (1, .int x1), (2, .int x2)]) dX10_forget_1 (by decide) rfl ?_
  refine xP.pick (lv' := [(0, rv x0), (2, .int x2), (3, .int x1)]) [1, 3, 0] rfl ?_
  exact hq
theorem rX10_forget {G : xG} {fr lo : Nat} {x0 : Nat} {x1 : Int32} {x2 : Int32} {h : xH} {Q : Outcome → xH → Prop} (hq : bX10_forget G fr lo x0 x1 x2 h Q) : xR G YX10_forget fr lo [rv x0, .int x1, .int x2] h Q := by
  show xP _ _ _ _ _ (lv_args 0 _) _ _ _
  rw [show lv_args 0 [rv x0, .int x1, .int x2] = [(0, rv x0), (1, .int x1), (2, .int x2)] from (xla1 (rv_cat _) (xla1 rfl (xla1 rfl xla0)))]
  exact uX10_forget hq
set_option maxRecDepth 100000 in
theorem dX10_copy_0 : decode cX10_copy 0 = .ok (.iconst 0, 1) := by decide +kernel
set_option maxRecDepth 100000 in
theorem dX10_copy_1 : decode cX10_copy 1 = .ok (.istore 4, 2) := by decide +kernel
set_option maxRecDepth 100000 in
theorem dX10_copy_3 : decode cX10_copy 3 = .ok (.iload 4, 2) := by decide +kernel
set_option maxRecDepth 100000 in
theorem dX10_copy_5 : decode cX10_copy 5 = .ok (.iload_n 3, 1) := by decide +kernel
set_option maxRecDepth 100000 in
theorem dX10_copy_6 : decode cX10_copy 6 = .ok (.if_icmp .ge 81, 3) := by decide +kernel
set_option maxRecDepth 100000 in
theorem dX10_copy_9 : decode cX10_copy 9 = .ok (.aload_n 0, 1) := by decide +kernel
set_option maxRecDepth 100000 in
theorem dX10_copy_10 : decode cX10_copy 10 = .ok (.getfield 10, 3) := by decide +kernel
set_option maxRecDepth 100000 in
theorem dX10_copy_13 : decode cX10_copy 13 = .ok (.iload_n 2, 1) := by decide +kernel
set_option maxRecDepth 100000 in
theorem dX10_copy_14 : decode cX10_copy 14 = .ok (.iload 4, 2) := by decide +kernel
set_option maxRecDepth 100000 in
theorem dX10_copy_16 : decode cX10_copy 16 = .ok (.iadd, 1) := by decide +kernel
set_option maxRecDepth 100000 in
theorem dX10_copy_17 : decode cX10_copy 17 = .ok (.aload_n 0, 1) := by decide +kernel
set_option maxRecDepth 100000 in
theorem dX10_copy_18 : decode cX10_copy 18 = .ok (.getfield 10, 3) := by decide +kernel
set_option maxRecDepth 100000 in
theorem dX10_copy_21 : decode cX10_copy 21 = .ok (.iload_n 1, 1) := by decide +kernel
set_option maxRecDepth 100000 in
theorem dX10_copy_22 : decode cX10_copy 22 = .ok (.iload 4, 2) := by decide +kernel
set_option maxRecDepth 100000 in
theorem dX10_copy_24 : decode cX10_copy 24 = .ok (.iadd, 1) := by decide +kernel
set_option maxRecDepth 100000 in
theorem dX10_copy_25 : decode cX10_copy 25 = .ok (.laload, 1) := by decide +kernel
set_option maxRecDepth 100000 in
theorem dX10_copy_26 : decode cX10_copy 26 = .ok (.lastore, 1) := by decide +kernel
set_option maxRecDepth 100000 in
theorem dX10_copy_27 : decode cX10_copy 27 = .ok (.aload_n 0, 1) := by decide +kernel
set_option maxRecDepth 100000 in
theorem dX10_copy_28 : decode cX10_copy 28 = .ok (.getfield 16, 3) := by decide +kernel
set_option maxRecDepth 100000 in
theorem dX10_copy_31 : decode cX10_copy 31 = .ok (.iload_n 2, 1) := by decide +kernel
set_option maxRecDepth 100000 in
theorem dX10_copy_32 : decode cX10_copy 32 = .ok (.iload 4, 2) := by decide +kernel
set_option maxRecDepth 100000 in
theorem dX10_copy_34 : decode cX10_copy 34 = .ok (.iadd, 1) := by decide +kernel
set_option maxRecDepth 100000 in
theorem dX10_copy_35 : decode cX10_copy 35 = .ok (.aload_n 0, 1) := by decide +kernel
set_option maxRecDepth 100000 in
theorem dX10_copy_36 : decode cX10_copy 36 = .ok (.getfield 16, 3) := by decide +kernel
set_option maxRecDepth 100000 in
theorem dX10_copy_39 : decode cX10_copy 39 = .ok (.iload_n 1, 1) := by decide +kernel
set_option maxRecDepth 100000 in
theorem dX10_copy_40 : decode cX10_copy 40 = .ok (.iload 4, 2) := by decide +kernel
set_option maxRecDepth 100000 in
theorem dX10_copy_42 : decode cX10_copy 42 = .ok (.iadd, 1) := by decide +kernel
set_option maxRecDepth 100000 in
theorem dX10_copy_43 : decode cX10_copy 43 = .ok (.laload, 1) := by decide +kernel
set_option maxRecDepth 100000 in
theorem dX10_copy_44 : decode cX10_copy 44 = .ok (.lastore, 1) := by decide +kernel
set_option maxRecDepth 100000 in
theorem dX10_copy_45 : decode cX10_copy 45 = .ok (.aload_n 0, 1) := by decide +kernel
set_option maxRecDepth 100000 in
theorem dX10_copy_46 : decode cX10_copy 46 = .ok (.getfield 19, 3) := by decide +kernel
set_option maxRecDepth 100000 in
theorem dX10_copy_49 : decode cX10_copy 49 = .ok (.iload_n 2, 1) := by decide +kernel
set_option maxRecDepth 100000 in
theorem dX10_copy_50 : decode cX10_copy 50 = .ok (.iload 4, 2) := by decide +kernel
set_option maxRecDepth 100000 in
theorem dX10_copy_52 : decode cX10_copy 52 = .ok (.iadd, 1) := by decide +kernel
set_option maxRecDepth 100000 in
theorem dX10_copy_53 : decode cX10_copy 53 = .ok (.aload_n 0, 1) := by decide +kernel
set_option maxRecDepth 100000 in
theorem dX10_copy_54 : decode cX10_copy 54 = .ok (.getfield 19, 3) := by decide +kernel
set_option maxRecDepth 100000 in
theorem dX10_copy_57 : decode cX10_copy 57 = .ok (.iload_n 1, 1) := by decide +kernel
set_option maxRecDepth 100000 in
theorem dX10_copy_58 : decode cX10_copy 58 = .ok (.iload 4, 2) := by decide +kernel
set_option maxRecDepth 100000 in
theorem dX10_copy_60 : decode cX10_copy 60 = .ok (.iadd, 1) := by decide +kernel
set_option maxRecDepth 100000 in
theorem dX10_copy_61 : decode cX10_copy 61 = .ok (.daload, 1) := by decide +kernel
set_option maxRecDepth 100000 in
theorem dX10_copy_62 : decode cX10_copy 62 = .ok (.dastore, 1) := by decide +kernel
set_option maxRecDepth 100000 in
theorem dX10_copy_63 : decode cX10_copy 63 = .ok (.aload_n 0, 1) := by decide +kernel
set_option maxRecDepth 100000 in
theorem dX10_copy_64 : decode cX10_copy 64 = .ok (.getfield 23, 3) := by decide +kernel
set_option maxRecDepth 100000 in
theorem dX10_copy_67 : decode cX10_copy 67 = .ok (.iload_n 2, 1) := by decide +kernel
set_option maxRecDepth 100000 in
theorem dX10_copy_68 : decode cX10_copy 68 = .ok (.iload 4, 2) := by decide +kernel
set_option maxRecDepth 100000 in
theorem dX10_copy_70 : decode cX10_copy 70 = .ok (.iadd, 1) := by decide +kernel
set_option maxRecDepth 100000 in
theorem dX10_copy_71 : decode cX10_copy 71 = .ok (.aload_n 0, 1) := by decide +kernel
set_option maxRecDepth 100000 in
theorem dX10_copy_72 : decode cX10_copy 72 = .ok (.getfield 23, 3) := by decide +kernel
set_option maxRecDepth 100000 in
theorem dX10_copy_75 : decode cX10_copy 75 = .ok (.iload_n 1, 1) := by decide +kernel
set_option maxRecDepth 100000 in
theorem dX10_copy_76 : decode cX10_copy 76 = .ok (.iload 4, 2) := by decide +kernel
set_option maxRecDepth 100000 in
theorem dX10_copy_78 : decode cX10_copy 78 = .ok (.iadd, 1) := by decide +kernel
set_option maxRecDepth 100000 in
theorem dX10_copy_79 : decode cX10_copy 79 = .ok (.baload, 1) := by decide +kernel
set_option maxRecDepth 100000 in
theorem dX10_copy_80 : decode cX10_copy 80 = .ok (.bastore, 1) := by decide +kernel
set_option maxRecDepth 100000 in
theorem dX10_copy_81 : decode cX10_copy 81 = .ok (.iinc 4 1, 3) := by decide +kernel
set_option maxRecDepth 100000 in
theorem dX10_copy_84 : decode cX10_copy 84 = .ok (.goto (-81), 3) := by decide +kernel
set_option maxRecDepth 100000 in
theorem dX10_copy_87 : decode cX10_copy 87 = .ok (.return_, 1) := by decide +kernel
def lX10_copy_3 (G : xG) (fr lo : Nat) (x0 : Nat) (x1 : Int32) (x2 : Int32) (x3 : Int32) (x4 : Int32) (h : xH) (Q : Outcome → xH → Prop) : Prop := xP G YX10_copy fr lo 3 [(0, rv x0), (1, .int x1), (2, .int x2), (3, .int x3), (4, .int x4)] [] h Q
set_option maxRecDepth 100000 in
def bX10_copy_3 (G : xG) (fr lo : Nat) (x0 : Nat) (x1 : Int32) (x2 : Int32) (x3 : Int32) (x4 : Int32) (h : xH) (Q : Outcome → xH → Prop) : Prop := ((x3 ≤ x4 → Q (.returned none) h) ∧ (¬ x3 ≤ x4 → tg h x0 = 11 ∧ tg h (fR h x0 2560) = 101 ∧ vp_in (x1 + x4) (ln h (fR h x0 2560)) ∧ vp_in (x2 + x4) (ln h (fR h x0 2560)) ∧ (∀ h6 : xH, h6 = tJ h (fR h x0 2560) (Int32.toNatClampNeg (x2 + x4)) (aJ h (fR h x0 2560) (Int32.toNatClampNeg (x1 + x4))) → tg h6 (fR h6 x0 2561) = 101 ∧ vp_in (x1 + x4) (ln h6 (fR h6 x0 2561)) ∧ vp_in (x2 + x4) (ln h6 (fR h6 x0 2561)) ∧ (∀ h12 : xH, h12 = tJ h6 (fR h6 x0 2561) (Int32.toNatClampNeg (x2 + x4)) (aJ h6 (fR h6 x0 2561) (Int32.toNatClampNeg (x1 + x4))) → tg h12 (fR h12 x0 2562) = 102 ∧ vp_in (x1 + x4) (ln h12 (fR h12 x0 2562)) ∧ vp_in (x2 + x4) (ln h12 (fR h12 x0 2562)) ∧ (∀ h18 : xH, h18 = tD h12 (fR h12 x0 2562) (Int32.toNatClampNeg (x2 + x4)) (aD h12 (fR h12 x0 2562) (Int32.toNatClampNeg (x1 + x4))) → tg h18 (fR h18 x0 2563) = 104 ∧ vp_in (x1 + x4) (ln h18 (fR h18 x0 2563)) ∧ vp_in (x2 + x4) (ln h18 (fR h18 x0 2563)) ∧ (∀ h24 : xH, h24 = tI h18 (fR h18 x0 2563) (Int32.toNatClampNeg (x2 + x4)) (vp_nar .boolean (aI h18 (fR h18 x0 2563) (Int32.toNatClampNeg (x1 + x4)))) → lX10_copy_3 G fr lo x0 x1 x2 x3 (x4 + 1) h24 Q))))))
set_option maxRecDepth 100000 in
theorem uX10_copy_3 {G : xG} {fr lo : Nat} {x0 : Nat} {x1 : Int32} {x2 : Int32} {x3 : Int32} {x4 : Int32} {h : xH} {Q : Outcome → xH → Prop} (hq : bX10_copy_3 G fr lo x0 x1 x2 x3 x4 h Q) : xP G YX10_copy fr lo 3 [(0, rv x0), (1, .int x1), (2, .int x2), (3, .int x3), (4, .int x4)] [] h Q := by
  unfold bX10_copy_3 at hq
  refine x_iload 4 dX10_copy_3 rfl ?_
  refine x_iload_n 3 dX10_copy_5 rfl ?_
  refine x_icmp_ge (tgt := 87) dX10_copy_6 (by decide) (fun c1 => ?_) (fun c1 => ?_)
  · replace hq := hq.1 c1
    exact x_vret rfl dX10_copy_87 hq
  · replace hq := hq.2 c1
    refine x_aload_n 0 dX10_copy_9 rfl ?_
    obtain ⟨g2, hq⟩ := hq
    refine x_get (v := rv (fR h x0 2560)) fdX10_10 dX10_copy_10 g2 rfl ?_
    refine x_iload_n 2 dX10_copy_13 rfl ?_
    refine x_iload 4 dX10_copy_14 rfl ?_
    refine x_iadd dX10_copy_16 ?_
    refine x_aload_n 0 dX10_copy_17 rfl ?_
    refine x_get (v := rv (fR h x0 2560)) fdX10_10 dX10_copy_18 g2 rfl ?_
    refine x_iload_n 1 dX10_copy_21 rfl ?_
    refine x_iload 4 dX10_copy_22 rfl ?_
    refine x_iadd dX10_copy_24 ?_
    obtain ⟨g3, hq⟩ := hq
    obtain ⟨i4, hq⟩ := hq
    refine x_lald g3 i4 dX10_copy_25 ?_
    obtain ⟨i5, hq⟩ := hq
    obtain ⟨h6, e7⟩ : ∃ y, y = tJ h (fR h x0 2560) (Int32.toNatClampNeg (x2 + x4)) (aJ h (fR h x0 2560) (Int32.toNatClampNeg (x1 + x4))) := ⟨_, rfl⟩
    replace hq := hq h6 e7
    refine x_last' g3 i5 dX10_copy_26 e7 ?_
    refine x_aload_n 0 dX10_copy_27 rfl ?_
    have t8 : tg h6 x0 = 11 := by rw [e7]; exact g2
    refine x_get (v := rv (fR h6 x0 2561)) fdX10_16 dX10_copy_28 t8 rfl ?_
    refine x_iload_n 2 dX10_copy_31 rfl ?_
    refine x_iload 4 dX10_copy_32 rfl ?_
    refine x_iadd dX10_copy_34 ?_
    refine x_aload_n 0 dX10_copy_35 rfl ?_
    refine x_get (v := rv (fR h6 x0 2561)) fdX10_16 dX10_copy_36 t8 rfl ?_
    refine x_iload_n 1 dX10_copy_39 rfl ?_
    refine x_iload 4 dX10_copy_40 rfl ?_
    refine x_iadd dX10_copy_42 ?_
    obtain ⟨g9, hq⟩ := hq
    obtain ⟨i10, hq⟩ := hq
    refine x_lald g9 i10 dX10_copy_43 ?_
    obtain ⟨i11, hq⟩ := hq
    obtain ⟨h12, e13⟩ : ∃ y, y = tJ h6 (fR h6 x0 2561) (Int32.toNatClampNeg (x2 + x4)) (aJ h6 (fR h6 x0 2561) (Int32.toNatClampNeg (x1 + x4))) := ⟨_, rfl⟩
    replace hq := hq h12 e13
    refine x_last' g9 i11 dX10_copy_44 e13 ?_
    refine x_aload_n 0 dX10_copy_45 rfl ?_
    have t14 : tg h12 x0 = 11 := by rw [e13]; exact t8
    refine x_get (v := rv (fR h12 x0 2562)) fdX10_19 dX10_copy_46 t14 rfl ?_
    refine x_iload_n 2 dX10_copy_49 rfl ?_
    refine x_iload 4 dX10_copy_50 rfl ?_
    refine x_iadd dX10_copy_52 ?_
    refine x_aload_n 0 dX10_copy_53 rfl ?_
    refine x_get (v := rv (fR h12 x0 2562)) fdX10_19 dX10_copy_54 t14 rfl ?_
    refine x_iload_n 1 dX10_copy_57 rfl ?_
    refine x_iload 4 dX10_copy_58 rfl ?_
    refine x_iadd dX10_copy_60 ?_
    obtain ⟨g15, hq⟩ := hq
    obtain ⟨i16, hq⟩ := hq
    refine x_dald g15 i16 dX10_copy_61 ?_
    obtain ⟨i17, hq⟩ := hq
    obtain ⟨h18, e19⟩ : ∃ y, y = tD h12 (fR h12 x0 2562) (Int32.toNatClampNeg (x2 + x4)) (aD h12 (fR h12 x0 2562) (Int32.toNatClampNeg (x1 + x4))) := ⟨_, rfl⟩
    replace hq := hq h18 e19
    refine x_dast' g15 i17 dX10_copy_62 e19 ?_
    refine x_aload_n 0 dX10_copy_63 rfl ?_
    have t20 : tg h18 x0 = 11 := by rw [e19]; exact t14
    refine x_get (v := rv (fR h18 x0 2563)) fdX10_23 dX10_copy_64 t20 rfl ?_
    refine x_iload_n 2 dX10_copy_67 rfl ?_
    refine x_iload 4 dX10_copy_68 rfl ?_
    refine x_iadd dX10_copy_70 ?_
    refine x_aload_n 0 dX10_copy_71 rfl ?_
    refine x_get (v := rv (fR h18 x0 2563)) fdX10_23 dX10_copy_72 t20 rfl ?_
    refine x_iload_n 1 dX10_copy_75 rfl ?_
    refine x_iload 4 dX10_copy_76 rfl ?_
    refine x_iadd dX10_copy_78 ?_
    obtain ⟨g21, hq⟩ := hq
    obtain ⟨i22, hq⟩ := hq
    refine x_zald g21 i22 dX10_copy_79 ?_
    obtain ⟨i23, hq⟩ := hq
    obtain ⟨h24, e25⟩ : ∃ y, y = tI h18 (fR h18 x0 2563) (Int32.toNatClampNeg (x2 + x4)) (vp_nar .boolean (aI h18 (fR h18 x0 2563) (Int32.toNatClampNeg (x1 + x4)))) := ⟨_, rfl⟩
    replace hq := hq h24 e25
    refine x_zast' g21 i23 dX10_copy_80 e25 ?_
    refine x_iinc (lv' := [(4, .int (x4 + 1)), (0, rv x0), (1, .int x1), (2, .int x2), (3, .int x3)]) 4 dX10_copy_81 rfl (by decide) rfl ?_
    refine x_goto (tgt := 3) dX10_copy_84 (by decide) ?_
    refine xP.pick (lv' := [(0, rv x0), (1, .int x1), (2, .int x2), (3, .int x3), (4, .int (x4 + 1))]) [1, 2, 3, 4, 0] rfl ?_
    exact hq
set_option maxRecDepth 100000 in
def bX10_copy (G : xG) (fr lo : Nat) (x0 : Nat) (x1 : Int32) (x2 : Int32) (x3 : Int32) (h : xH) (Q : Outcome → xH → Prop) : Prop := lX10_copy_3 G fr lo x0 x1 x2 x3 0 h Q
set_option maxRecDepth 100000 in
theorem uX10_copy {G : xG} {fr lo : Nat} {x0 : Nat} {x1 : Int32} {x2 : Int32} {x3 : Int32} {h : xH} {Q : Outcome → xH → Prop} (hq : bX10_copy G fr lo x0 x1 x2 x3 h Q) : xP G YX10_copy fr lo 0 [(0, rv x0), (1, .int x1), (2, .int x2), (3, .int x3)] [] h Q := by
  unfold bX10_copy at hq
  refine x_iconst (v := 0) dX10_copy_0 (by decide) ?_
  refine x_istore (lv' := [(4, .int 0), (0, rv x0), (1, .int x1), (2, .int x2), (3, .int x3)]) dX10_copy_1 (by decide) rfl ?_
  refine xP.pick (lv' := [(0, rv x0), (1, .int x1), (2, .int x2), (3, .int x3), (4, .int 0)]) [1, 2, 3, 4, 0] rfl ?_
  exact hq
theorem rX10_copy {G : xG} {fr lo : Nat} {x0 : Nat} {x1 : Int32} {x2 : Int32} {x3 : Int32} {h : xH} {Q : Outcome → xH → Prop} (hq : bX10_copy G fr lo x0 x1 x2 x3 h Q) : xR G YX10_copy fr lo [rv x0, .int x1, .int x2, .int x3] h Q := by
  show xP _ _ _ _ _ (lv_args 0 _) _ _ _
  rw [show lv_args 0 [rv x0, .int x1, .int x2, .int x3] = [(0, rv x0), (1, .int x1), (2, .int x2), (3, .int x3)] from (xla1 (rv_cat _) (xla1 rfl (xla1 rfl (xla1 rfl xla0))))]
  exact uX10_copy hq
