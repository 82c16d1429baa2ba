/-! PascalHouse$Part, walked (1) -/
set_option maxRecDepth 100000 in
theorem dX19_init_0 : decode cX19_init 0 = .ok (.aload_n 0, 1) := by decide +kernel
set_option maxRecDepth 100000 in
theorem dX19_init_1 : decode cX19_init 1 = .ok (.invokespecial 3, 3) := by decide +kernel
set_option maxRecDepth 100000 in
theorem dX19_init_4 : decode cX19_init 4 = .ok (.aload_n 0, 1) := by decide +kernel
set_option maxRecDepth 100000 in
theorem dX19_init_5 : decode cX19_init 5 = .ok (.iconst 4, 1) := by decide +kernel
set_option maxRecDepth 100000 in
theorem dX19_init_6 : decode cX19_init 6 = .ok (.newarray .int, 2) := by decide +kernel
set_option maxRecDepth 100000 in
theorem dX19_init_8 : decode cX19_init 8 = .ok (.putfield 9, 3) := by decide +kernel
set_option maxRecDepth 100000 in
theorem dX19_init_11 : decode cX19_init 11 = .ok (.aload_n 0, 1) := by decide +kernel
set_option maxRecDepth 100000 in
theorem dX19_init_12 : decode cX19_init 12 = .ok (.iconst 4, 1) := by decide +kernel
set_option maxRecDepth 100000 in
theorem dX19_init_13 : decode cX19_init 13 = .ok (.newarray .int, 2) := by decide +kernel
set_option maxRecDepth 100000 in
theorem dX19_init_15 : decode cX19_init 15 = .ok (.putfield 15, 3) := by decide +kernel
set_option maxRecDepth 100000 in
theorem dX19_init_18 : decode cX19_init 18 = .ok (.aload_n 0, 1) := by decide +kernel
set_option maxRecDepth 100000 in
theorem dX19_init_19 : decode cX19_init 19 = .ok (.aload_n 1, 1) := by decide +kernel
set_option maxRecDepth 100000 in
theorem dX19_init_20 : decode cX19_init 20 = .ok (.putfield 18, 3) := by decide +kernel
set_option maxRecDepth 100000 in
theorem dX19_init_23 : decode cX19_init 23 = .ok (.aload_n 0, 1) := by decide +kernel
set_option maxRecDepth 100000 in
theorem dX19_init_24 : decode cX19_init 24 = .ok (.iload_n 2, 1) := by decide +kernel
set_option maxRecDepth 100000 in
theorem dX19_init_25 : decode cX19_init 25 = .ok (.putfield 22, 3) := by decide +kernel
set_option maxRecDepth 100000 in
theorem dX19_init_28 : decode cX19_init 28 = .ok (.aload_n 0, 1) := by decide +kernel
set_option maxRecDepth 100000 in
theorem dX19_init_29 : decode cX19_init 29 = .ok (.iload_n 3, 1) := by decide +kernel
set_option maxRecDepth 100000 in
theorem dX19_init_30 : decode cX19_init 30 = .ok (.putfield 26, 3) := by decide +kernel
set_option maxRecDepth 100000 in
theorem dX19_init_33 : decode cX19_init 33 = .ok (.return_, 1) := by decide +kernel
set_option maxRecDepth 100000 in
def bX19_init (G : xG) (fr lo : Nat) (x0 : Nat) (x1 : Nat) (x2 : Int32) (x3 : Int32) (h : xH) (Q : Outcome → xH → Prop) : Prop := tg h x0 = 20 ∧ 1 ≤ fr ∧ 12 ≤ lo ∧ nx h + 1 ≤ xGN G ∧ us h + (Int32.toNatClampNeg 4) ≤ xGU G ∧ (∀ (a6 : Nat) (h7 : xH), a6 = nx h + 1 → h7 = nA h 100 (Int32.toNatClampNeg 4) → xfresh h a6 → (∀ h13 : xH, h13 = sR h7 x0 4871 a6 → nx h13 + 1 ≤ xGN G ∧ us h13 + (Int32.toNatClampNeg 4) ≤ xGU G ∧ (∀ (a17 : Nat) (h18 : xH), a17 = nx h13 + 1 → h18 = nA h13 100 (Int32.toNatClampNeg 4) → xfresh h13 a17 → (∀ h25 : xH, h25 = sR h18 x0 4872 a17 → (∀ h28 : xH, h28 = sR h25 x0 4864 x1 → (∀ h31 : xH, h31 = sI h28 x0 4865 x2 → (∀ h34 : xH, h34 = sI h31 x0 4866 x3 → Q (.returned none) h34)))))))
set_option maxRecDepth 100000 in
theorem uX19_init {G : xG} {fr lo : Nat} {x0 : Nat} {x1 : Nat} {x2 : Int32} {x3 : Int32} {h : xH} {Q : Outcome → xH → Prop} (hq : bX19_init G fr lo x0 x1 x2 x3 h Q) : xP G YX19_init fr lo 0 [(0, rv x0), (1, rv x1), (2, .int x2), (3, .int x3)] [] h Q := by
  unfold bX19_init at hq
  refine x_aload_n 0 dX19_init_0 rfl ?_
  obtain ⟨g1, hq⟩ := hq
  obtain ⟨g2, g3, hq⟩ := hq
  refine x_objInit (by rw [g1]; decide) q2323 q438 q439 dX19_init_1 g2 (by simp only [List.map_cons, List.map_nil, List.sum_cons, List.sum_nil, rv_cat, Value.category]; omega) ?_
  refine x_aload_n 0 dX19_init_4 rfl ?_
  refine x_iconst (v := 4) dX19_init_5 (by decide) ?_
  obtain ⟨g4, g5, hq⟩ := hq
  obtain ⟨a6, e8⟩ : ∃ y, y = nx h + 1 := ⟨_, rfl⟩
  obtain ⟨h7, e9⟩ : ∃ y, y = nA h 100 (Int32.toNatClampNeg 4) := ⟨_, rfl⟩
  refine x_newa' 0 pk_int dX19_init_6 (by decide) (by decide) g4 g5 e8 e9 (fun f10 => ?_)
  replace hq := hq a6 h7 e8 e9 f10
  have t11 : tg h7 a6 = 100 := by rw [e9, e8]; exact tg_nA
  have t12 : tg h7 x0 = 20 := by rw [e9]; exact tg_nA_ne e8 f10 g1 (by decide)
  obtain ⟨h13, e14⟩ : ∃ y, y = sR h7 x0 4871 a6 := ⟨_, rfl⟩
  replace hq := hq h13 e14
  refine x_putR fdX19_9 xty_A dX19_init_8 t12 (Or.inl (by rw [t12]; rfl)) rfl e14 ?_
  refine x_aload_n 0 dX19_init_11 rfl ?_
  refine x_iconst (v := 4) dX19_init_12 (by decide) ?_
  obtain ⟨g15, g16, hq⟩ := hq
  obtain ⟨a17, e19⟩ : ∃ y, y = nx h13 + 1 := ⟨_, rfl⟩
  obtain ⟨h18, e20⟩ : ∃ y, y = nA h13 100 (Int32.toNatClampNeg 4) := ⟨_, rfl⟩
  refine x_newa' 0 pk_int dX19_init_13 (by decide) (by decide) g15 g16 e19 e20 (fun f21 => ?_)
  replace hq := hq a17 h18 e19 e20 f21
  have t22 : tg h18 a17 = 100 := by rw [e20, e19]; exact tg_nA
  have t23 : tg h13 x0 = 20 := by rw [e14]; exact t12
  have t24 : tg h18 x0 = 20 := by rw [e20]; exact tg_nA_ne e19 f21 t23 (by decide)
  obtain ⟨h25, e26⟩ : ∃ y, y = sR h18 x0 4872 a17 := ⟨_, rfl⟩
  replace hq := hq h25 e26
  refine x_putR fdX19_15 xty_A dX19_init_15 t24 (Or.inl (by rw [t24]; rfl)) rfl e26 ?_
  refine x_aload_n 0 dX19_init_18 rfl ?_
  refine x_aload_n 1 dX19_init_19 rfl ?_
  have t27 : tg h25 x0 = 20 := by rw [e26]; exact t24
  obtain ⟨h28, e29⟩ : ∃ y, y = sR h25 x0 4864 x1 := ⟨_, rfl⟩
  replace hq := hq h28 e29
  refine x_putFR fdX19_18 owX19_init_0 xty_O dX19_init_20 t27 (Or.inl (by rw [t27]; rfl)) rfl e29 ?_
  refine x_aload_n 0 dX19_init_23 rfl ?_
  refine x_iload_n 2 dX19_init_24 rfl ?_
  have t30 : tg h28 x0 = 20 := by rw [e29]; exact t27
  obtain ⟨h31, e32⟩ : ∃ y, y = sI h28 x0 4865 x2 := ⟨_, rfl⟩
  replace hq := hq h31 e32
  refine x_putFI fdX19_22 owX19_init_1 xty_I1 dX19_init_25 t30 (Or.inl (by rw [t30]; rfl)) xnI rfl e32 ?_
  refine x_aload_n 0 dX19_init_28 rfl ?_
  refine x_iload_n 3 dX19_init_29 rfl ?_
  have t33 : tg h31 x0 = 20 := by rw [e32]; exact t30
  obtain ⟨h34, e35⟩ : ∃ y, y = sI h31 x0 4866 x3 := ⟨_, rfl⟩
  replace hq := hq h34 e35
  refine x_putFI fdX19_26 owX19_init_2 xty_I1 dX19_init_30 t33 (Or.inl (by rw [t33]; rfl)) xnI rfl e35 ?_
  exact x_vret rfl dX19_init_33 hq
theorem rX19_init {G : xG} {fr lo : Nat} {x0 : Nat} {x1 : Nat} {x2 : Int32} {x3 : Int32} {h : xH} {Q : Outcome → xH → Prop} (hq : bX19_init G fr lo x0 x1 x2 x3 h Q) : xR G YX19_init fr lo [rv x0, rv x1, .int x2, .int x3] h Q := by
  show xP _ _ _ _ _ (lv_args 0 _) _ _ _
  rw [show lv_args 0 [rv x0, rv x1, .int x2, .int x3] = [(0, rv x0), (1, rv x1), (2, .int x2), (3, .int x3)] from (xla1 (rv_cat _) (xla1 (rv_cat _) (xla1 rfl (xla1 rfl xla0))))]
  exact uX19_init hq
set_option maxRecDepth 100000 in
theorem dX19_choiceOf_0 : decode cX19_choiceOf 0 = .ok (.aload_n 0, 1) := by decide +kernel
set_option maxRecDepth 100000 in
theorem dX19_choiceOf_1 : decode cX19_choiceOf 1 = .ok (.lload_n 1, 1) := by decide +kernel
set_option maxRecDepth 100000 in
theorem dX19_choiceOf_2 : decode cX19_choiceOf 2 = .ok (.invokevirtual 29, 3) := by decide +kernel
set_option maxRecDepth 100000 in
theorem dX19_choiceOf_5 : decode cX19_choiceOf 5 = .ok (.istore_n 3, 1) := by decide +kernel
set_option maxRecDepth 100000 in
theorem dX19_choiceOf_6 : decode cX19_choiceOf 6 = .ok (.iload_n 3, 1) := by decide +kernel
set_option maxRecDepth 100000 in
theorem dX19_choiceOf_7 : decode cX19_choiceOf 7 = .ok (.aload_n 0, 1) := by decide +kernel
set_option maxRecDepth 100000 in
theorem dX19_choiceOf_8 : decode cX19_choiceOf 8 = .ok (.getfield 33, 3) := by decide +kernel
set_option maxRecDepth 100000 in
theorem dX19_choiceOf_11 : decode cX19_choiceOf 11 = .ok (.if_icmp .ge 24, 3) := by decide +kernel
set_option maxRecDepth 100000 in
theorem dX19_choiceOf_14 : decode cX19_choiceOf 14 = .ok (.aload_n 0, 1) := by decide +kernel
set_option maxRecDepth 100000 in
theorem dX19_choiceOf_15 : decode cX19_choiceOf 15 = .ok (.getfield 9, 3) := by decide +kernel
set_option maxRecDepth 100000 in
theorem dX19_choiceOf_18 : decode cX19_choiceOf 18 = .ok (.iload_n 3, 1) := by decide +kernel
set_option maxRecDepth 100000 in
theorem dX19_choiceOf_19 : decode cX19_choiceOf 19 = .ok (.iaload, 1) := by decide +kernel
set_option maxRecDepth 100000 in
theorem dX19_choiceOf_20 : decode cX19_choiceOf 20 = .ok (.i2l, 1) := by decide +kernel
set_option maxRecDepth 100000 in
theorem dX19_choiceOf_21 : decode cX19_choiceOf 21 = .ok (.lload_n 1, 1) := by decide +kernel
set_option maxRecDepth 100000 in
theorem dX19_choiceOf_22 : decode cX19_choiceOf 22 = .ok (.lcmp, 1) := by decide +kernel
set_option maxRecDepth 100000 in
theorem dX19_choiceOf_23 : decode cX19_choiceOf 23 = .ok (.ifCond .ne 12, 3) := by decide +kernel
set_option maxRecDepth 100000 in
theorem dX19_choiceOf_26 : decode cX19_choiceOf 26 = .ok (.aload_n 0, 1) := by decide +kernel
set_option maxRecDepth 100000 in
theorem dX19_choiceOf_27 : decode cX19_choiceOf 27 = .ok (.getfield 15, 3) := by decide +kernel
set_option maxRecDepth 100000 in
theorem dX19_choiceOf_30 : decode cX19_choiceOf 30 = .ok (.iload_n 3, 1) := by decide +kernel
set_option maxRecDepth 100000 in
theorem dX19_choiceOf_31 : decode cX19_choiceOf 31 = .ok (.iaload, 1) := by decide +kernel
set_option maxRecDepth 100000 in
theorem dX19_choiceOf_32 : decode cX19_choiceOf 32 = .ok (.goto 4, 3) := by decide +kernel
set_option maxRecDepth 100000 in
theorem dX19_choiceOf_35 : decode cX19_choiceOf 35 = .ok (.iconst (-1), 1) := by decide +kernel
set_option maxRecDepth 100000 in
theorem dX19_choiceOf_36 : decode cX19_choiceOf 36 = .ok (.ireturn, 1) := by decide +kernel
set_option maxRecDepth 100000 in
def bX19_choiceOf_36 (G : xG) (fr lo : Nat) (s0 : Int32) (h : xH) (Q : Outcome → xH → Prop) : Prop := Q (.returned (some (.int s0))) h
set_option maxRecDepth 100000 in
theorem uX19_choiceOf_36 {G : xG} {fr lo : Nat} {s0 : Int32} {h : xH} {Q : Outcome → xH → Prop} (hq : bX19_choiceOf_36 G fr lo s0 h Q) : xP G YX19_choiceOf fr lo 36 [] [.int s0] h Q := by
  unfold bX19_choiceOf_36 at hq
  exact x_iret rfl rfl dX19_choiceOf_36 hq
set_option maxRecDepth 100000 in
def bX19_choiceOf_35 (G : xG) (fr lo : Nat) (h : xH) (Q : Outcome → xH → Prop) : Prop := bX19_choiceOf_36 G fr lo (-1) h Q
set_option maxRecDepth 100000 in
theorem uX19_choiceOf_35 {G : xG} {fr lo : Nat} {h : xH} {Q : Outcome → xH → Prop} (hq : bX19_choiceOf_35 G fr lo h Q) : xP G YX19_choiceOf fr lo 35 [] [] h Q := by
  unfold bX19_choiceOf_35 at hq
  refine x_iconst (v := (-1)) dX19_choiceOf_35 (by decide) ?_
  exact uX19_choiceOf_36 hq
set_option maxRecDepth 100000 in
def bX19_choiceOf (G : xG) (fr lo : Nat) (x0 : Nat) (x1 : Int64) (h : xH) (Q : Outcome → xH → Prop) : Prop := tg h x0 = 20 ∧ 1 ≤ fr ∧ 17 ≤ lo ∧ xRi G YX19_placeOf (fr - 1) (lo - 17) [rv x0, .long x1] h (fun x5 h4 => xext h h4 → (((fI h4 x0 4873) ≤ x5 → bX19_choiceOf_35 G fr lo h4 Q) ∧ (¬ (fI h4 x0 4873) ≤ x5 → tg h4 (fR h4 x0 4871) = 100 ∧ vp_in x5 (ln h4 (fR h4 x0 4871)) ∧ ((¬ (lg_cmp (Int32.toInt64 (aI h4 (fR h4 x0 4871) (Int32.toNatClampNeg x5))) x1) = 0 → bX19_choiceOf_35 G fr lo h4 Q) ∧ ((lg_cmp (Int32.toInt64 (aI h4 (fR h4 x0 4871) (Int32.toNatClampNeg x5))) x1) = 0 → tg h4 (fR h4 x0 4872) = 100 ∧ vp_in x5 (ln h4 (fR h4 x0 4872)) ∧ bX19_choiceOf_36 G fr lo (aI h4 (fR h4 x0 4872) (Int32.toNatClampNeg x5)) h4 Q))))) (fun r h2 => Q (.threw r) h2)
set_option maxRecDepth 100000 in
theorem uX19_choiceOf {G : xG} {fr lo : Nat} {x0 : Nat} {x1 : Int64} {h : xH} {Q : Outcome → xH → Prop} (hq : bX19_choiceOf G fr lo x0 x1 h Q) : xP G YX19_choiceOf fr lo 0 [(0, rv x0), (1, .long x1)] [] h Q := by
  unfold bX19_choiceOf at hq
  refine x_aload_n 0 dX19_choiceOf_0 rfl ?_
  refine x_lload_n 1 dX19_choiceOf_1 rfl ?_
  obtain ⟨g1, hq⟩ := hq
  obtain ⟨g2, g3, hq⟩ := hq
  refine x_callV (Yc := YX19_placeOf) (as := [.long x1]) (st := []) q2405 mvX19_placeOf g1 rfl dX19_choiceOf_2 (xle (xal1 (rv_cat _) (xal2 rfl xal0)) (by decide)) (xfr g2) (xlo xsw0 (by decide) g3) (xKi hq (fun x5 h4 hq e6 => ?_) (fun _ _ q _ => q))
  replace hq := hq e6
  refine x_istore_n (lv' := [(3, .int x5), (0, rv x0), (1, .long x1)]) dX19_choiceOf_5 (by decide) rfl ?_
  refine x_iload_n 0 dX19_choiceOf_6 rfl ?_
  refine x_aload_n 1 dX19_choiceOf_7 rfl ?_
  have t7 : tg h4 x0 = 20 := e6.tg g1 (by decide)
  refine x_get (v := .int (fI h4 x0 4873)) fdX19_33 dX19_choiceOf_8 t7 rfl ?_
  refine x_icmp_ge (tgt := 35) dX19_choiceOf_11 (by decide) (fun c8 => ?_) (fun c8 => ?_)
  · replace hq := hq.1 c8
    refine xP.pick (lv' := []) [] rfl ?_
    exact uX19_choiceOf_35 hq
  · replace hq := hq.2 c8
    refine x_aload_n 1 dX19_choiceOf_14 rfl ?_
    refine x_get (v := rv (fR h4 x0 4871)) fdX19_9 dX19_choiceOf_15 t7 rfl ?_
    refine x_iload_n 0 dX19_choiceOf_18 rfl ?_
    obtain ⟨g9, hq⟩ := hq
    obtain ⟨i10, hq⟩ := hq
    refine x_iald 0 (Or.inl rfl) g9 i10 dX19_choiceOf_19 ?_
    refine x_i2l dX19_choiceOf_20 ?_
    refine x_lload_n 2 dX19_choiceOf_21 rfl ?_
    refine x_lcmp dX19_choiceOf_22 ?_
    refine x_if_ne (tgt := 35) dX19_choiceOf_23 (by decide) (fun c11 => ?_) (fun c11 => ?_)
    · replace hq := hq.1 c11
      refine xP.pick (lv' := []) [] rfl ?_
      exact uX19_choiceOf_35 hq
    · replace hq := hq.2 c11
      refine x_aload_n 1 dX19_choiceOf_26 rfl ?_
      refine x_get (v := rv (fR h4 x0 4872)) fdX19_15 dX19_choiceOf_27 t7 rfl ?_
      refine x_iload_n 0 dX19_choiceOf_30 rfl ?_
      obtain ⟨g12, hq⟩ := hq
      obtain ⟨i13, hq⟩ := hq
      refine x_iald 0 (Or.inl rfl) g12 i13 dX19_choiceOf_31 ?_
      refine x_goto (tgt := 36) dX19_choiceOf_32 (by decide) ?_
      refine xP.pick (lv' := []) [] rfl ?_
      exact uX19_choiceOf_36 hq
theorem rX19_choiceOf {G : xG} {fr lo : Nat} {x0 : Nat} {x1 : Int64} {h : xH} {Q : Outcome → xH → Prop} (hq : bX19_choiceOf G fr lo x0 x1 h Q) : xR G YX19_choiceOf fr lo [rv x0, .long x1] h Q := by
  show xP _ _ _ _ _ (lv_args 0 _) _ _ _
  rw [show lv_args 0 [rv x0, .long x1] = [(0, rv x0), (1, .long x1)] from (xla1 (rv_cat _) (xla2 rfl xla0))]
  exact uX19_choiceOf hq
set_option maxRecDepth 100000 in
theorem dX19_placeOf_0 : decode cX19_placeOf 0 = .ok (.iconst 0, 1) := by decide +kernel
set_option maxRecDepth 100000 in
theorem dX19_placeOf_1 : decode cX19_placeOf 1 = .ok (.istore_n 3, 1) := by decide +kernel
set_option maxRecDepth 100000 in
theorem dX19_placeOf_2 : decode cX19_placeOf 2 = .ok (.aload_n 0, 1) := by decide +kernel
set_option maxRecDepth 100000 in
theorem dX19_placeOf_3 : decode cX19_placeOf 3 = .ok (.getfield 33, 3) := by decide +kernel
set_option maxRecDepth 100000 in
theorem dX19_placeOf_6 : decode cX19_placeOf 6 = .ok (.istore 4, 2) := by decide +kernel
set_option maxRecDepth 100000 in
theorem dX19_placeOf_8 : decode cX19_placeOf 8 = .ok (.iload_n 3, 1) := by decide +kernel
set_option maxRecDepth 100000 in
theorem dX19_placeOf_9 : decode cX19_placeOf 9 = .ok (.iload 4, 2) := by decide +kernel
set_option maxRecDepth 100000 in
theorem dX19_placeOf_11 : decode cX19_placeOf 11 = .ok (.if_icmp .ge 39, 3) := by decide +kernel
set_option maxRecDepth 100000 in
theorem dX19_placeOf_14 : decode cX19_placeOf 14 = .ok (.iload_n 3, 1) := by decide +kernel
set_option maxRecDepth 100000 in
theorem dX19_placeOf_15 : decode cX19_placeOf 15 = .ok (.iload 4, 2) := by decide +kernel
set_option maxRecDepth 100000 in
theorem dX19_placeOf_17 : decode cX19_placeOf 17 = .ok (.iadd, 1) := by decide +kernel
set_option maxRecDepth 100000 in
theorem dX19_placeOf_18 : decode cX19_placeOf 18 = .ok (.iconst 2, 1) := by decide +kernel
set_option maxRecDepth 100000 in
theorem dX19_placeOf_19 : decode cX19_placeOf 19 = .ok (.idiv, 1) := by decide +kernel
set_option maxRecDepth 100000 in
theorem dX19_placeOf_20 : decode cX19_placeOf 20 = .ok (.istore 5, 2) := by decide +kernel
set_option maxRecDepth 100000 in
theorem dX19_placeOf_22 : decode cX19_placeOf 22 = .ok (.aload_n 0, 1) := by decide +kernel
set_option maxRecDepth 100000 in
theorem dX19_placeOf_23 : decode cX19_placeOf 23 = .ok (.getfield 9, 3) := by decide +kernel
set_option maxRecDepth 100000 in
theorem dX19_placeOf_26 : decode cX19_placeOf 26 = .ok (.iload 5, 2) := by decide +kernel
set_option maxRecDepth 100000 in
theorem dX19_placeOf_28 : decode cX19_placeOf 28 = .ok (.iaload, 1) := by decide +kernel
set_option maxRecDepth 100000 in
theorem dX19_placeOf_29 : decode cX19_placeOf 29 = .ok (.i2l, 1) := by decide +kernel
set_option maxRecDepth 100000 in
theorem dX19_placeOf_30 : decode cX19_placeOf 30 = .ok (.lload_n 1, 1) := by decide +kernel
set_option maxRecDepth 100000 in
theorem dX19_placeOf_31 : decode cX19_placeOf 31 = .ok (.lcmp, 1) := by decide +kernel
set_option maxRecDepth 100000 in
theorem dX19_placeOf_32 : decode cX19_placeOf 32 = .ok (.ifCond .ge 11, 3) := by decide +kernel
set_option maxRecDepth 100000 in
theorem dX19_placeOf_35 : decode cX19_placeOf 35 = .ok (.iload 5, 2) := by decide +kernel
set_option maxRecDepth 100000 in
theorem dX19_placeOf_37 : decode cX19_placeOf 37 = .ok (.iconst 1, 1) := by decide +kernel
set_option maxRecDepth 100000 in
theorem dX19_placeOf_38 : decode cX19_placeOf 38 = .ok (.iadd, 1) := by decide +kernel
set_option maxRecDepth 100000 in
theorem dX19_placeOf_39 : decode cX19_placeOf 39 = .ok (.istore_n 3, 1) := by decide +kernel
set_option maxRecDepth 100000 in
theorem dX19_placeOf_40 : decode cX19_placeOf 40 = .ok (.goto 7, 3) := by decide +kernel
set_option maxRecDepth 100000 in
theorem dX19_placeOf_43 : decode cX19_placeOf 43 = .ok (.iload 5, 2) := by decide +kernel
set_option maxRecDepth 100000 in
theorem dX19_placeOf_45 : decode cX19_placeOf 45 = .ok (.istore 4, 2) := by decide +kernel
set_option maxRecDepth 100000 in
theorem dX19_placeOf_47 : decode cX19_placeOf 47 = .ok (.goto (-39), 3) := by decide +kernel
set_option maxRecDepth 100000 in
theorem dX19_placeOf_50 : decode cX19_placeOf 50 = .ok (.iload_n 3, 1) := by decide +kernel
set_option maxRecDepth 100000 in
theorem dX19_placeOf_51 : decode cX19_placeOf 51 = .ok (.ireturn, 1) := by decide +kernel
def lX19_placeOf_8 (G : xG) (fr lo : Nat) (x0 : Nat) (x1 : Int64) (x3 : Int32) (x4 : Int32) (h : xH) (Q : Outcome → xH → Prop) : Prop := xP G YX19_placeOf fr lo 8 [(0, rv x0), (1, .long x1), (3, .int x3), (4, .int x4)] [] h Q
set_option maxRecDepth 100000 in
def bX19_placeOf_47 (G : xG) (fr lo : Nat) (x0 : Nat) (x1 : Int64) (x3 : Int32) (x4 : Int32) (h : xH) (Q : Outcome → xH → Prop) : Prop := lX19_placeOf_8 G fr lo x0 x1 x3 x4 h Q
set_option maxRecDepth 100000 in
theorem uX19_placeOf_47 {G : xG} {fr lo : Nat} {x0 : Nat} {x1 : Int64} {x3 : Int32} {x4 : Int32} {h : xH} {Q : Outcome → xH → Prop} (hq : bX19_placeOf_47 G fr lo x0 x1 x3 x4 h Q) : xP G YX19_placeOf fr lo 47 [(0, rv x0), (1, .long x1), (3, .int x3), (4, .int x4)] [] h Q := by
  unfold bX19_placeOf_47 at hq
  refine x_goto (tgt := 8) dX19_placeOf_47 (by decide) ?_
  exact hq
set_option maxRecDepth 100000 in
def bX19_placeOf_8 (G : xG) (fr lo : Nat) (x0 : Nat) (x1 : Int64) (x3 : Int32) (x4 : Int32) (h : xH) (Q : Outcome → xH → Prop) : Prop := ((x4 ≤ x3 → Q (.returned (some (.int x3))) h) ∧ (¬ x4 ≤ x3 → tg h x0 = 20 ∧ tg h (fR h x0 4871) = 100 ∧ vp_in ((x3 + x4) / 2) (ln h (fR h x0 4871)) ∧ ((0 ≤ (lg_cmp (Int32.toInt64 (aI h (fR h x0 4871) (Int32.toNatClampNeg ((x3 + x4) / 2)))) x1) → bX19_placeOf_47 G fr lo x0 x1 x3 ((x3 + x4) / 2) h Q) ∧ (¬ 0 ≤ (lg_cmp (Int32.toInt64 (aI h (fR h x0 4871) (Int32.toNatClampNeg ((x3 + x4) / 2)))) x1) → bX19_placeOf_47 G fr lo x0 x1 (((x3 + x4) / 2) + 1) x4 h Q))))
set_option maxRecDepth 100000 in
theorem uX19_placeOf_8 {G : xG} {fr lo : Nat} {x0 : Nat} {x1 : Int64} {x3 : Int32} {x4 : Int32} {h : xH} {Q : Outcome → xH → Prop} (hq : bX19_placeOf_8 G fr lo x0 x1 x3 x4 h Q) : xP G YX19_placeOf fr lo 8 [(0, rv x0), (1, .long x1), (3, .int x3), (4, .int x4)] [] h Q := by
  unfold bX19_placeOf_8 at hq
  refine x_iload_n 2 dX19_placeOf_8 rfl ?_
  refine x_iload 3 dX19_placeOf_9 rfl ?_
  refine x_icmp_ge (tgt := 50) dX19_placeOf_11 (by decide) (fun c1 => ?_) (fun c1 => ?_)
  · replace hq := hq.1 c1
    refine x_iload_n 2 dX19_placeOf_50 rfl ?_
    exact x_iret rfl rfl dX19_placeOf_51 hq
  · replace hq := hq.2 c1
    refine x_iload_n 2 dX19_placeOf_14 rfl ?_
    refine x_iload 3 dX19_placeOf_15 rfl ?_
    refine x_iadd dX19_placeOf_17 ?_
    refine x_iconst (v := 2) dX19_placeOf_18 (by decide) ?_
    refine x_idiv dX19_placeOf_19 (by decide) ?_
    refine x_istore (lv' := [(5, .int ((x3 + x4) / 2)), (0, rv x0), (1, .long x1), (3, .int x3), (4, .int x4)]) dX19_placeOf_20 (by decide) rfl ?_
    refine x_aload_n 1 dX19_placeOf_22 rfl ?_
    obtain ⟨g2, hq⟩ := hq
    refine x_get (v := rv (fR h x0 4871)) fdX19_9 dX19_placeOf_23 g2 rfl ?_
    refine x_iload 0 dX19_placeOf_26 rfl ?_
    obtain ⟨g3, hq⟩ := hq
    obtain ⟨i4, hq⟩ := hq
    refine x_iald 0 (Or.inl rfl) g3 i4 dX19_placeOf_28 ?_
    refine x_i2l dX19_placeOf_29 ?_
    refine x_lload_n 2 dX19_placeOf_30 rfl ?_
    refine x_lcmp dX19_placeOf_31 ?_
    refine x_if_ge (tgt := 43) dX19_placeOf_32 (by decide) (fun c5 => ?_) (fun c5 => ?_)
    · replace hq := hq.1 c5
      refine x_iload 0 dX19_placeOf_43 rfl ?_
      refine x_istore (lv' := [(4, .int ((x3 + x4) / 2)), (5, .int ((x3 + x4) / 2)), (0, rv x0), (1, .long x1), (3, .int x3)]) dX19_placeOf_45 (by decide) rfl ?_
      refine xP.pick (lv' := [(0, rv x0), (1, .long x1), (3, .int x3), (4, .int ((x3 + x4) / 2))]) [2, 3, 4, 0] rfl ?_
      exact uX19_placeOf_47 hq
    · replace hq := hq.2 c5
      refine x_iload 0 dX19_placeOf_35 rfl ?_
      refine x_iconst (v := 1) dX19_placeOf_37 (by decide) ?_
      refine x_iadd dX19_placeOf_38 ?_
      refine x_istore_n (lv' := [(3, .int (((x3 + x4) / 2) + 1)), (5, .int ((x3 + x4) / 2)), (0, rv x0), (1, .long x1), (4, .int x4)]) dX19_placeOf_39 (by decide) rfl ?_
      refine x_goto (tgt := 47) dX19_placeOf_40 (by decide) ?_
      refine xP.pick (lv' := [(0, rv x0), (1, .long x1), (3, .int (((x3 + x4) / 2) + 1)), (4, .int x4)]) [2, 3, 0, 4] rfl ?_
      exact uX19_placeOf_47 hq
set_option maxRecDepth 100000 in
def bX19_placeOf (G : xG) (fr lo : Nat) (x0 : Nat) (x1 : Int64) (h : xH) (Q : Outcome → xH → Prop) : Prop := tg h x0 = 20 ∧ lX19_placeOf_8 G fr lo x0 x1 0 (fI h x0 4873) h Q
set_option maxRecDepth 100000 in
theorem uX19_placeOf {G : xG} {fr lo : Nat} {x0 : Nat} {x1 : Int64} {h : xH} {Q : Outcome → xH → Prop} (hq : bX19_placeOf G fr lo x0 x1 h Q) : xP G YX19_placeOf fr lo 0 [(0, rv x0), (1, .long x1)] [] h Q := by
  unfold bX19_placeOf at hq
  refine x_iconst (v := 0) dX19_placeOf_0 (by decide) ?_
  refine x_istore_n (lv' := [(3, .int 0), (0, rv x0), (1, .long x1)]) dX19_placeOf_1 (by decide) rfl ?_
  refine x_aload_n 1 dX19_placeOf_2 rfl ?_
  obtain ⟨g1, hq⟩ := hq
  refine x_get (v := .int (fI h x0 4873)) fdX19_33 dX19_placeOf_3 g1 rfl ?_
  refine x_istore (lv' := [(4, .int (fI h x0 4873)), (3, .int 0), (0, rv x0), (1, .long x1)]) dX19_placeOf_6 (by decide) rfl ?_
  refine xP.pick (lv' := [(0, rv x0), (1, .long x1), (3, .int 0), (4, .int (fI h x0 4873))]) [2, 3, 1, 0] rfl ?_
  exact hq
theorem rX19_placeOf {G : xG} {fr lo : Nat} {x0 : Nat} {x1 : Int64} {h : xH} {Q : Outcome → xH → Prop} (hq : bX19_placeOf G fr lo x0 x1 h Q) : xR G YX19_placeOf fr lo [rv x0, .long x1] h Q := by
  show xP _ _ _ _ _ (lv_args 0 _) _ _ _
  rw [show lv_args 0 [rv x0, .long x1] = [(0, rv x0), (1, .long x1)] from (xla1 (rv_cat _) (xla2 rfl xla0))]
  exact uX19_placeOf hq
set_option maxRecDepth 100000 in
theorem dX19_add_0 : decode cX19_add 0 = .ok (.aload_n 0, 1) := by decide +kernel
set_option maxRecDepth 100000 in
theorem dX19_add_1 : decode cX19_add 1 = .ok (.getfield 33, 3) := by decide +kernel
set_option maxRecDepth 100000 in
theorem dX19_add_4 : decode cX19_add 4 = .ok (.aload_n 0, 1) := by decide +kernel
set_option maxRecDepth 100000 in
theorem dX19_add_5 : decode cX19_add 5 = .ok (.getfield 9, 3) := by decide +kernel
set_option maxRecDepth 100000 in
theorem dX19_add_8 : decode cX19_add 8 = .ok (.arraylength, 1) := by decide +kernel
set_option maxRecDepth 100000 in
theorem dX19_add_9 : decode cX19_add 9 = .ok (.if_icmp .ne 25, 3) := by decide +kernel
set_option maxRecDepth 100000 in
theorem dX19_add_12 : decode cX19_add 12 = .ok (.aload_n 0, 1) := by decide +kernel
set_option maxRecDepth 100000 in
theorem dX19_add_13 : decode cX19_add 13 = .ok (.aload_n 0, 1) := by decide +kernel
set_option maxRecDepth 100000 in
theorem dX19_add_14 : decode cX19_add 14 = .ok (.getfield 9, 3) := by decide +kernel
set_option maxRecDepth 100000 in
theorem dX19_add_17 : decode cX19_add 17 = .ok (.invokestatic 36, 3) := by decide +kernel
set_option maxRecDepth 100000 in
theorem dX19_add_20 : decode cX19_add 20 = .ok (.putfield 9, 3) := by decide +kernel
set_option maxRecDepth 100000 in
theorem dX19_add_23 : decode cX19_add 23 = .ok (.aload_n 0, 1) := by decide +kernel
set_option maxRecDepth 100000 in
theorem dX19_add_24 : decode cX19_add 24 = .ok (.aload_n 0, 1) := by decide +kernel
set_option maxRecDepth 100000 in
theorem dX19_add_25 : decode cX19_add 25 = .ok (.getfield 15, 3) := by decide +kernel
set_option maxRecDepth 100000 in
theorem dX19_add_28 : decode cX19_add 28 = .ok (.invokestatic 36, 3) := by decide +kernel
set_option maxRecDepth 100000 in
theorem dX19_add_31 : decode cX19_add 31 = .ok (.putfield 15, 3) := by decide +kernel
set_option maxRecDepth 100000 in
theorem dX19_add_34 : decode cX19_add 34 = .ok (.aload_n 0, 1) := by decide +kernel
set_option maxRecDepth 100000 in
theorem dX19_add_35 : decode cX19_add 35 = .ok (.iload_n 1, 1) := by decide +kernel
set_option maxRecDepth 100000 in
theorem dX19_add_36 : decode cX19_add 36 = .ok (.i2l, 1) := by decide +kernel
set_option maxRecDepth 100000 in
theorem dX19_add_37 : decode cX19_add 37 = .ok (.invokevirtual 29, 3) := by decide +kernel
set_option maxRecDepth 100000 in
theorem dX19_add_40 : decode cX19_add 40 = .ok (.istore_n 3, 1) := by decide +kernel
set_option maxRecDepth 100000 in
theorem dX19_add_41 : decode cX19_add 41 = .ok (.aload_n 0, 1) := by decide +kernel
set_option maxRecDepth 100000 in
theorem dX19_add_42 : decode cX19_add 42 = .ok (.getfield 33, 3) := by decide +kernel
set_option maxRecDepth 100000 in
theorem dX19_add_45 : decode cX19_add 45 = .ok (.istore 4, 2) := by decide +kernel
set_option maxRecDepth 100000 in
theorem dX19_add_47 : decode cX19_add 47 = .ok (.iload 4, 2) := by decide +kernel
set_option maxRecDepth 100000 in
theorem dX19_add_49 : decode cX19_add 49 = .ok (.iload_n 3, 1) := by decide +kernel
set_option maxRecDepth 100000 in
theorem dX19_add_50 : decode cX19_add 50 = .ok (.if_icmp .le 41, 3) := by decide +kernel
set_option maxRecDepth 100000 in
theorem dX19_add_53 : decode cX19_add 53 = .ok (.aload_n 0, 1) := by decide +kernel
set_option maxRecDepth 100000 in
theorem dX19_add_54 : decode cX19_add 54 = .ok (.getfield 9, 3) := by decide +kernel
set_option maxRecDepth 100000 in
theorem dX19_add_57 : decode cX19_add 57 = .ok (.iload 4, 2) := by decide +kernel
set_option maxRecDepth 100000 in
theorem dX19_add_59 : decode cX19_add 59 = .ok (.aload_n 0, 1) := by decide +kernel
set_option maxRecDepth 100000 in
theorem dX19_add_60 : decode cX19_add 60 = .ok (.getfield 9, 3) := by decide +kernel
set_option maxRecDepth 100000 in
theorem dX19_add_63 : decode cX19_add 63 = .ok (.iload 4, 2) := by decide +kernel
set_option maxRecDepth 100000 in
theorem dX19_add_65 : decode cX19_add 65 = .ok (.iconst 1, 1) := by decide +kernel
set_option maxRecDepth 100000 in
theorem dX19_add_66 : decode cX19_add 66 = .ok (.isub, 1) := by decide +kernel
set_option maxRecDepth 100000 in
theorem dX19_add_67 : decode cX19_add 67 = .ok (.iaload, 1) := by decide +kernel
set_option maxRecDepth 100000 in
theorem dX19_add_68 : decode cX19_add 68 = .ok (.iastore, 1) := by decide +kernel
set_option maxRecDepth 100000 in
theorem dX19_add_69 : decode cX19_add 69 = .ok (.aload_n 0, 1) := by decide +kernel
set_option maxRecDepth 100000 in
theorem dX19_add_70 : decode cX19_add 70 = .ok (.getfield 15, 3) := by decide +kernel
set_option maxRecDepth 100000 in
theorem dX19_add_73 : decode cX19_add 73 = .ok (.iload 4, 2) := by decide +kernel
set_option maxRecDepth 100000 in
theorem dX19_add_75 : decode cX19_add 75 = .ok (.aload_n 0, 1) := by decide +kernel
set_option maxRecDepth 100000 in
theorem dX19_add_76 : decode cX19_add 76 = .ok (.getfield 15, 3) := by decide +kernel
set_option maxRecDepth 100000 in
theorem dX19_add_79 : decode cX19_add 79 = .ok (.iload 4, 2) := by decide +kernel
set_option maxRecDepth 100000 in
theorem dX19_add_81 : decode cX19_add 81 = .ok (.iconst 1, 1) := by decide +kernel
set_option maxRecDepth 100000 in
theorem dX19_add_82 : decode cX19_add 82 = .ok (.isub, 1) := by decide +kernel
set_option maxRecDepth 100000 in
theorem dX19_add_83 : decode cX19_add 83 = .ok (.iaload, 1) := by decide +kernel
set_option maxRecDepth 100000 in
theorem dX19_add_84 : decode cX19_add 84 = .ok (.iastore, 1) := by decide +kernel
set_option maxRecDepth 100000 in
theorem dX19_add_85 : decode cX19_add 85 = .ok (.iinc 4 (-1), 3) := by decide +kernel
set_option maxRecDepth 100000 in
theorem dX19_add_88 : decode cX19_add 88 = .ok (.goto (-41), 3) := by decide +kernel
set_option maxRecDepth 100000 in
theorem dX19_add_91 : decode cX19_add 91 = .ok (.aload_n 0, 1) := by decide +kernel
set_option maxRecDepth 100000 in
theorem dX19_add_92 : decode cX19_add 92 = .ok (.getfield 9, 3) := by decide +kernel
set_option maxRecDepth 100000 in
theorem dX19_add_95 : decode cX19_add 95 = .ok (.iload_n 3, 1) := by decide +kernel
set_option maxRecDepth 100000 in
theorem dX19_add_96 : decode cX19_add 96 = .ok (.iload_n 1, 1) := by decide +kernel
set_option maxRecDepth 100000 in
theorem dX19_add_97 : decode cX19_add 97 = .ok (.iastore, 1) := by decide +kernel
set_option maxRecDepth 100000 in
theorem dX19_add_98 : decode cX19_add 98 = .ok (.aload_n 0, 1) := by decide +kernel
set_option maxRecDepth 100000 in
theorem dX19_add_99 : decode cX19_add 99 = .ok (.getfield 15, 3) := by decide +kernel
set_option maxRecDepth 100000 in
theorem dX19_add_102 : decode cX19_add 102 = .ok (.iload_n 3, 1) := by decide +kernel
set_option maxRecDepth 100000 in
theorem dX19_add_103 : decode cX19_add 103 = .ok (.iload_n 2, 1) := by decide +kernel
set_option maxRecDepth 100000 in
theorem dX19_add_104 : decode cX19_add 104 = .ok (.iastore, 1) := by decide +kernel
set_option maxRecDepth 100000 in
theorem dX19_add_105 : decode cX19_add 105 = .ok (.aload_n 0, 1) := by decide +kernel
set_option maxRecDepth 100000 in
theorem dX19_add_106 : decode cX19_add 106 = .ok (.dup, 1) := by decide +kernel
set_option maxRecDepth 100000 in
theorem dX19_add_107 : decode cX19_add 107 = .ok (.getfield 33, 3) := by decide +kernel
set_option maxRecDepth 100000 in
theorem dX19_add_110 : decode cX19_add 110 = .ok (.iconst 1, 1) := by decide +kernel
set_option maxRecDepth 100000 in
theorem dX19_add_111 : decode cX19_add 111 = .ok (.iadd, 1) := by decide +kernel
set_option maxRecDepth 100000 in
theorem dX19_add_112 : decode cX19_add 112 = .ok (.putfield 33, 3) := by decide +kernel
set_option maxRecDepth 100000 in
theorem dX19_add_115 : decode cX19_add 115 = .ok (.return_, 1) := by decide +kernel
def lX19_add_47 (G : xG) (fr lo : Nat) (x0 : Nat) (x1 : Int32) (x2 : Int32) (x3 : Int32) (x4 : Int32) (h : xH) (Q : Outcome → xH → Prop) : Prop := xP G YX19_add fr lo 47 [(0, rv x0), (1, .int x1), (2, .int x2), (3, .int x3), (4, .int x4)] [] h Q
set_option maxRecDepth 100000 in
def bX19_add_47 (G : xG) (fr lo : Nat) (x0 : Nat) (x1 : Int32) (x2 : Int32) (x3 : Int32) (x4 : Int32) (h : xH) (Q : Outcome → xH → Prop) : Prop := ((x4 ≤ x3 → tg h x0 = 20 ∧ tg h (fR h x0 4871) = 100 ∧ vp_in x3 (ln h (fR h x0 4871)) ∧ (∀ h5 : xH, h5 = tI h (fR h x0 4871) (Int32.toNatClampNeg x3) x1 → tg h5 (fR h5 x0 4872) = 100 ∧ vp_in x3 (ln h5 (fR h5 x0 4872)) ∧ (∀ h10 : xH, h10 = tI h5 (fR h5 x0 4872) (Int32.toNatClampNeg x3) x2 → (∀ h13 : xH, h13 = sI h10 x0 4873 ((fI h10 x0 4873) + 1) → Q (.returned none) h13)))) ∧ (¬ x4 ≤ x3 → tg h x0 = 20 ∧ tg h (fR h x0 4871) = 100 ∧ vp_in (x4 - 1) (ln h (fR h x0 4871)) ∧ vp_in x4 (ln h (fR h x0 4871)) ∧ (∀ h19 : xH, h19 = tI h (fR h x0 4871) (Int32.toNatClampNeg x4) (aI h (fR h x0 4871) (Int32.toNatClampNeg (x4 - 1))) → tg h19 (fR h19 x0 4872) = 100 ∧ vp_in (x4 - 1) (ln h19 (fR h19 x0 4872)) ∧ vp_in x4 (ln h19 (fR h19 x0 4872)) ∧ (∀ h25 : xH, h25 = tI h19 (fR h19 x0 4872) (Int32.toNatClampNeg x4) (aI h19 (fR h19 x0 4872) (Int32.toNatClampNeg (x4 - 1))) → lX19_add_47 G fr lo x0 x1 x2 x3 (x4 + (-1)) h25 Q))))
set_option maxRecDepth 100000 in
theorem uX19_add_47 {G : xG} {fr lo : Nat} {x0 : Nat} {x1 : Int32} {x2 : Int32} {x3 : Int32} {x4 : Int32} {h : xH} {Q : Outcome → xH → Prop} (hq : bX19_add_47 G fr lo x0 x1 x2 x3 x4 h Q) : xP G YX19_add fr lo 47 [(0, rv x0), (1, .int x1), (2, .int x2), (3, .int x3), (4, .int x4)] [] h Q := by
  unfold bX19_add_47 at hq
  refine x_iload 4 dX19_add_47 rfl ?_
  refine x_iload_n 3 dX19_add_49 rfl ?_
  refine x_icmp_le (tgt := 91) dX19_add_50 (by decide) (fun c1 => ?_) (fun c1 => ?_)
  · replace hq := hq.1 c1
    refine x_aload_n 0 dX19_add_91 rfl ?_
    obtain ⟨g2, hq⟩ := hq
    refine x_get (v := rv (fR h x0 4871)) fdX19_9 dX19_add_92 g2 rfl ?_
    refine x_iload_n 3 dX19_add_95 rfl ?_
    refine x_iload_n 1 dX19_add_96 rfl ?_
    obtain ⟨g3, hq⟩ := hq
    obtain ⟨i4, hq⟩ := hq
    obtain ⟨h5, e6⟩ : ∃ y, y = tI h (fR h x0 4871) (Int32.toNatClampNeg x3) x1 := ⟨_, rfl⟩
    replace hq := hq h5 e6
    refine x_iast' g3 i4 dX19_add_97 e6 ?_
    refine x_aload_n 0 dX19_add_98 rfl ?_
    have t7 : tg h5 x0 = 20 := by rw [e6]; exact g2
    refine x_get (v := rv (fR h5 x0 4872)) fdX19_15 dX19_add_99 t7 rfl ?_
    refine x_iload_n 3 dX19_add_102 rfl ?_
    refine x_iload_n 2 dX19_add_103 rfl ?_
    obtain ⟨g8, hq⟩ := hq
    obtain ⟨i9, hq⟩ := hq
    obtain ⟨h10, e11⟩ : ∃ y, y = tI h5 (fR h5 x0 4872) (Int32.toNatClampNeg x3) x2 := ⟨_, rfl⟩
    replace hq := hq h10 e11
    refine x_iast' g8 i9 dX19_add_104 e11 ?_
    refine x_aload_n 0 dX19_add_105 rfl ?_
    refine x_dup dX19_add_106 (rv_cat _) ?_
    have t12 : tg h10 x0 = 20 := by rw [e11]; exact t7
    refine x_get (v := .int (fI h10 x0 4873)) fdX19_33 dX19_add_107 t12 rfl ?_
    refine x_iconst (v := 1) dX19_add_110 (by decide) ?_
    refine x_iadd dX19_add_111 ?_
    obtain ⟨h13, e14⟩ : ∃ y, y = sI h10 x0 4873 ((fI h10 x0 4873) + 1) := ⟨_, rfl⟩
    replace hq := hq h13 e14
    refine x_putI fdX19_33 xty_I1 dX19_add_112 t12 (Or.inl (by rw [t12]; rfl)) xnI rfl e14 ?_
    exact x_vret rfl dX19_add_115 hq
  · replace hq := hq.2 c1
    refine x_aload_n 0 dX19_add_53 rfl ?_
    obtain ⟨g15, hq⟩ := hq
    refine x_get (v := rv (fR h x0 4871)) fdX19_9 dX19_add_54 g15 rfl ?_
    refine x_iload 4 dX19_add_57 rfl ?_
    refine x_aload_n 0 dX19_add_59 rfl ?_
    refine x_get (v := rv (fR h x0 4871)) fdX19_9 dX19_add_60 g15 rfl ?_
    refine x_iload 4 dX19_add_63 rfl ?_
    refine x_iconst (v := 1) dX19_add_65 (by decide) ?_
    refine x_isub dX19_add_66 ?_
    obtain ⟨g16, hq⟩ := hq
    obtain ⟨i17, hq⟩ := hq
    refine x_iald 0 (Or.inl rfl) g16 i17 dX19_add_67 ?_
    obtain ⟨i18, hq⟩ := hq
    obtain ⟨h19, e20⟩ : ∃ y, y = tI h (fR h x0 4871) (Int32.toNatClampNeg x4) (aI h (fR h x0 4871) (Int32.toNatClampNeg (x4 - 1))) := ⟨_, rfl⟩
    replace hq := hq h19 e20
    refine x_iast' g16 i18 dX19_add_68 e20 ?_
    refine x_aload_n 0 dX19_add_69 rfl ?_
    have t21 : tg h19 x0 = 20 := by rw [e20]; exact g15
    refine x_get (v := rv (fR h19 x0 4872)) fdX19_15 dX19_add_70 t21 rfl ?_
    refine x_iload 4 dX19_add_73 rfl ?_
    refine x_aload_n 0 dX19_add_75 rfl ?_
    refine x_get (v := rv (fR h19 x0 4872)) fdX19_15 dX19_add_76 t21 rfl ?_
    refine x_iload 4 dX19_add_79 rfl ?_
    refine x_iconst (v := 1) dX19_add_81 (by decide) ?_
    refine x_isub dX19_add_82 ?_
    obtain ⟨g22, hq⟩ := hq
    obtain ⟨i23, hq⟩ := hq
    refine x_iald 0 (Or.inl rfl) g22 i23 dX19_add_83 ?_
    obtain ⟨i24, hq⟩ := hq
    obtain ⟨h25, e26⟩ : ∃ y, y = tI h19 (fR h19 x0 4872) (Int32.toNatClampNeg x4) (aI h19 (fR h19 x0 4872) (Int32.toNatClampNeg (x4 - 1))) := ⟨_, rfl⟩
    replace hq := hq h25 e26
    refine x_iast' g22 i24 dX19_add_84 e26 ?_
    refine x_iinc (lv' := [(4, .int (x4 + (-1))), (0, rv x0), (1, .int x1), (2, .int x2), (3, .int x3)]) 4 dX19_add_85 rfl (by decide) rfl ?_
    refine x_goto (tgt := 47) dX19_add_88 (by decide) ?_
    refine xP.pick (lv' := [(0, rv x0), (1, .int x1), (2, .int x2), (3, .int x3), (4, .int (x4 + (-1)))]) [1, 2, 3, 4, 0] rfl ?_
    exact hq
set_option maxRecDepth 100000 in
def bX19_add_34 (G : xG) (fr lo : Nat) (x0 : Nat) (x1 : Int32) (x2 : Int32) (h : xH) (Q : Outcome → xH → Prop) : Prop := tg h x0 = 20 ∧ 1 ≤ fr ∧ 17 ≤ lo ∧ xRi G YX19_placeOf (fr - 1) (lo - 17) [rv x0, .long (Int32.toInt64 x1)] h (fun x5 h4 => xext h h4 → lX19_add_47 G fr lo x0 x1 x2 x5 (fI h4 x0 4873) h4 Q) (fun r h2 => Q (.threw r) h2)
set_option maxRecDepth 100000 in
theorem uX19_add_34 {G : xG} {fr lo : Nat} {x0 : Nat} {x1 : Int32} {x2 : Int32} {h : xH} {Q : Outcome → xH → Prop} (hq : bX19_add_34 G fr lo x0 x1 x2 h Q) : xP G YX19_add fr lo 34 [(0, rv x0), (1, .int x1), (2, .int x2)] [] h Q := by
  unfold bX19_add_34 at hq
  refine x_aload_n 0 dX19_add_34 rfl ?_
  refine x_iload_n 1 dX19_add_35 rfl ?_
  refine x_i2l dX19_add_36 ?_
  obtain ⟨g1, hq⟩ := hq
  obtain ⟨g2, g3, hq⟩ := hq
  refine x_callV (Yc := YX19_placeOf) (as := [.long (Int32.toInt64 x1)]) (st := []) q2405 mvX19_placeOf g1 rfl dX19_add_37 (xle (xal1 (rv_cat _) (xal2 rfl xal0)) (by decide)) (xfr g2) (xlo xsw0 (by decide) g3) (xKi hq (fun x5 h4 hq e6 => ?_) (fun _ _ q _ => q))
  replace hq := hq e6
  refine x_istore_n (lv' := [(3, .int x5), (0, rv x0), (1, .int x1), (2, .int x2)]) dX19_add_40 (by decide) rfl ?_
  refine x_aload_n 1 dX19_add_41 rfl ?_
  have t7 : tg h4 x0 = 20 := e6.tg g1 (by decide)
  refine x_get (v := .int (fI h4 x0 4873)) fdX19_33 dX19_add_42 t7 rfl ?_
  refine x_istore (lv' := [(4, .int (fI h4 x0 4873)), (3, .int x5), (0, rv x0), (1, .int x1), (2, .int x2)]) dX19_add_45 (by decide) rfl ?_
  refine xP.pick (lv' := [(0, rv x0), (1, .int x1), (2, .int x2), (3, .int x5), (4, .int (fI h4 x0 4873))]) [2, 3, 4, 1, 0] rfl ?_
  exact hq
set_option maxRecDepth 100000 in
def bX19_add (G : xG) (fr lo : Nat) (x0 : Nat) (x1 : Int32) (x2 : Int32) (h : xH) (Q : Outcome → xH → Prop) : Prop := tg h x0 = 20 ∧ tg h (fR h x0 4871) = 100 ∧ ((¬ (fI h x0 4873) = (Int32.ofNat (ln h (fR h x0 4871))) → bX19_add_34 G fr lo x0 x1 x2 h Q) ∧ ((fI h x0 4873) = (Int32.ofNat (ln h (fR h x0 4871))) → 1 ≤ fr ∧ 15 ≤ lo ∧ xRr G YX2_longer (fr - 1) (lo - 15) [rv (fR h x0 4871)] h (fun x7 h6 => xext h h6 → (∀ h10 : xH, h10 = sR h6 x0 4871 x7 → 1 ≤ fr ∧ 15 ≤ lo ∧ xRr G YX2_longer (fr - 1) (lo - 15) [rv (fR h10 x0 4872)] h10 (fun x16 h15 => xext h10 h15 → (∀ h19 : xH, h19 = sR h15 x0 4872 x16 → bX19_add_34 G fr lo x0 x1 x2 h19 Q)) (fun r h2 => Q (.threw r) h2))) (fun r h2 => Q (.threw r) h2)))
set_option maxRecDepth 100000 in
theorem uX19_add {G : xG} {fr lo : Nat} {x0 : Nat} {x1 : Int32} {x2 : Int32} {h : xH} {Q : Outcome → xH → Prop} (hq : bX19_add G fr lo x0 x1 x2 h Q) : xP G YX19_add fr lo 0 [(0, rv x0), (1, .int x1), (2, .int x2)] [] h Q := by
  unfold bX19_add at hq
  refine x_aload_n 0 dX19_add_0 rfl ?_
  obtain ⟨g1, hq⟩ := hq
  refine x_get (v := .int (fI h x0 4873)) fdX19_33 dX19_add_1 g1 rfl ?_
  refine x_aload_n 0 dX19_add_4 rfl ?_
  refine x_get (v := rv (fR h x0 4871)) fdX19_9 dX19_add_5 g1 rfl ?_
  obtain ⟨g2, hq⟩ := hq
  refine x_alen 0 g2 (by decide) dX19_add_8 ?_
  refine x_icmp_ne (tgt := 34) dX19_add_9 (by decide) (fun c3 => ?_) (fun c3 => ?_)
  · replace hq := hq.1 c3
    exact uX19_add_34 hq
  · replace hq := hq.2 c3
    refine x_aload_n 0 dX19_add_12 rfl ?_
    refine x_aload_n 0 dX19_add_13 rfl ?_
    refine x_get (v := rv (fR h x0 4871)) fdX19_9 dX19_add_14 g1 rfl ?_
    obtain ⟨g4, g5, hq⟩ := hq
    refine x_callS (Yc := YX2_longer) (as := [rv (fR h x0 4871)]) (st := [rv x0]) q2413 msX2_longer rfl dX19_add_17 (xle (xal1 (rv_cat _) xal0) (by decide)) (xfr g4) (xlo (xsw1 (rv_cat _) xsw0) (by decide) g5) (xKr hq (fun x7 h6 hq e8 => ?_) (fun _ _ q _ => q))
    replace hq := hq e8
    have t9 : tg h6 x0 = 20 := e8.tg g1 (by decide)
    obtain ⟨h10, e11⟩ : ∃ y, y = sR h6 x0 4871 x7 := ⟨_, rfl⟩
    replace hq := hq h10 e11
    refine x_putR fdX19_9 xty_A dX19_add_20 t9 (Or.inl (by rw [t9]; rfl)) rfl e11 ?_
    refine x_aload_n 0 dX19_add_23 rfl ?_
    refine x_aload_n 0 dX19_add_24 rfl ?_
    have t12 : tg h10 x0 = 20 := by rw [e11]; exact t9
    refine x_get (v := rv (fR h10 x0 4872)) fdX19_15 dX19_add_25 t12 rfl ?_
    obtain ⟨g13, g14, hq⟩ := hq
    refine x_callS (Yc := YX2_longer) (as := [rv (fR h10 x0 4872)]) (st := [rv x0]) q2413 msX2_longer rfl dX19_add_28 (xle (xal1 (rv_cat _) xal0) (by decide)) (xfr g13) (xlo (xsw1 (rv_cat _) xsw0) (by decide) g14) (xKr hq (fun x16 h15 hq e17 => ?_) (fun _ _ q _ => q))
    replace hq := hq e17
    have t18 : tg h15 x0 = 20 := e17.tg t12 (by decide)
    obtain ⟨h19, e20⟩ : ∃ y, y = sR h15 x0 4872 x16 := ⟨_, rfl⟩
    replace hq := hq h19 e20
    refine x_putR fdX19_15 xty_A dX19_add_31 t18 (Or.inl (by rw [t18]; rfl)) rfl e20 ?_
    exact uX19_add_34 hq
theorem rX19_add {G : xG} {fr lo : Nat} {x0 : Nat} {x1 : Int32} {x2 : Int32} {h : xH} {Q : Outcome → xH → Prop} (hq : bX19_add G fr lo x0 x1 x2 h Q) : xR G YX19_add fr lo [rv x0, .int x1, .int x2] h Q := by
  show xP _ _ _ _ _ (lv_args 0 _) _ _ _
  rw [show lv_args 0 [rv x0, .int x1, .int x2] = [(0, rv x0), (1, .int x1), (2, .int x2)] from (xla1 (rv_cat _) (xla1 rfl (xla1 rfl xla0)))]
  exact uX19_add hq
