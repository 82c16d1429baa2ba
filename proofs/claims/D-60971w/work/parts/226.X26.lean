/-! PascalHouseModel$Variants, walked (1) -/
set_option maxRecDepth 100000 in
theorem dX26_init_0 : decode cX26_init 0 = .ok (.aload_n 0, 1) := by decide +kernel
set_option maxRecDepth 100000 in
theorem dX26_init_1 : decode cX26_init 1 = .ok (.invokespecial 3, 3) := by decide +kernel
set_option maxRecDepth 100000 in
theorem dX26_init_4 : decode cX26_init 4 = .ok (.aload_n 0, 1) := by decide +kernel
set_option maxRecDepth 100000 in
theorem dX26_init_5 : decode cX26_init 5 = .ok (.aload_n 1, 1) := by decide +kernel
set_option maxRecDepth 100000 in
theorem dX26_init_6 : decode cX26_init 6 = .ok (.putfield 9, 3) := by decide +kernel
set_option maxRecDepth 100000 in
theorem dX26_init_9 : decode cX26_init 9 = .ok (.aload_n 0, 1) := by decide +kernel
set_option maxRecDepth 100000 in
theorem dX26_init_10 : decode cX26_init 10 = .ok (.iload_n 2, 1) := by decide +kernel
set_option maxRecDepth 100000 in
theorem dX26_init_11 : decode cX26_init 11 = .ok (.putfield 15, 3) := by decide +kernel
set_option maxRecDepth 100000 in
theorem dX26_init_14 : decode cX26_init 14 = .ok (.aload_n 0, 1) := by decide +kernel
set_option maxRecDepth 100000 in
theorem dX26_init_15 : decode cX26_init 15 = .ok (.iload_n 3, 1) := by decide +kernel
set_option maxRecDepth 100000 in
theorem dX26_init_16 : decode cX26_init 16 = .ok (.newarray .int, 2) := by decide +kernel
set_option maxRecDepth 100000 in
theorem dX26_init_18 : decode cX26_init 18 = .ok (.putfield 19, 3) := by decide +kernel
set_option maxRecDepth 100000 in
theorem dX26_init_21 : decode cX26_init 21 = .ok (.aload_n 0, 1) := by decide +kernel
set_option maxRecDepth 100000 in
theorem dX26_init_22 : decode cX26_init 22 = .ok (.iload_n 3, 1) := by decide +kernel
set_option maxRecDepth 100000 in
theorem dX26_init_23 : decode cX26_init 23 = .ok (.newarray .int, 2) := by decide +kernel
set_option maxRecDepth 100000 in
theorem dX26_init_25 : decode cX26_init 25 = .ok (.putfield 23, 3) := by decide +kernel
set_option maxRecDepth 100000 in
theorem dX26_init_28 : decode cX26_init 28 = .ok (.return_, 1) := by decide +kernel
set_option maxRecDepth 100000 in
def bX26_init (G : xG) (fr lo : Nat) (x0 : Nat) (x1 : Nat) (x2 : Int32) (x3 : Int32) (h : xH) (Q : Outcome → xH → Prop) : Prop := tg h x0 = 27 ∧ 1 ≤ fr ∧ 12 ≤ lo ∧ (∀ h4 : xH, h4 = sR h x0 6656 x1 → (∀ h7 : xH, h7 = sI h4 x0 6657 x2 → ¬ x3 < 0 ∧ Int32.toNatClampNeg x3 ≤ 1000000 ∧ nx h7 + 1 ≤ xGN G ∧ us h7 + (Int32.toNatClampNeg x3) ≤ xGU G ∧ (∀ (a13 : Nat) (h14 : xH), a13 = nx h7 + 1 → h14 = nA h7 100 (Int32.toNatClampNeg x3) → xfresh h7 a13 → (∀ h21 : xH, h21 = sR h14 x0 6662 a13 → ¬ x3 < 0 ∧ Int32.toNatClampNeg x3 ≤ 1000000 ∧ nx h21 + 1 ≤ xGN G ∧ us h21 + (Int32.toNatClampNeg x3) ≤ xGU G ∧ (∀ (a27 : Nat) (h28 : xH), a27 = nx h21 + 1 → h28 = nA h21 100 (Int32.toNatClampNeg x3) → xfresh h21 a27 → (∀ h35 : xH, h35 = sR h28 x0 6663 a27 → Q (.returned none) h35))))))
set_option maxRecDepth 100000 in
theorem uX26_init {G : xG} {fr lo : Nat} {x0 : Nat} {x1 : Nat} {x2 : Int32} {x3 : Int32} {h : xH} {Q : Outcome → xH → Prop} (hq : bX26_init G fr lo x0 x1 x2 x3 h Q) : xP G YX26_init fr lo 0 [(0, rv x0), (1, rv x1), (2, .int x2), (3, .int x3)] [] h Q := by
  unfold bX26_init at hq
  refine x_aload_n 0 dX26_init_0 rfl ?_
  obtain ⟨g1, hq⟩ := hq
  obtain ⟨g2, g3, hq⟩ := hq
  refine x_objInit (by rw [g1]; decide) q4212 q438 q439 dX26_init_1 g2 (by simp only [List.map_cons, List.map_nil, List.sum_cons, List.sum_nil, rv_cat, Value.category]; omega) ?_
  refine x_aload_n 0 dX26_init_4 rfl ?_
  refine x_aload_n 1 dX26_init_5 rfl ?_
  obtain ⟨h4, e5⟩ : ∃ y, y = sR h x0 6656 x1 := ⟨_, rfl⟩
  replace hq := hq h4 e5
  refine x_putFR fdX26_9 owX26_init_0 xty_O dX26_init_6 g1 (Or.inl (by rw [g1]; rfl)) rfl e5 ?_
  refine x_aload_n 0 dX26_init_9 rfl ?_
  refine x_iload_n 2 dX26_init_10 rfl ?_
  have t6 : tg h4 x0 = 27 := by rw [e5]; exact g1
  obtain ⟨h7, e8⟩ : ∃ y, y = sI h4 x0 6657 x2 := ⟨_, rfl⟩
  replace hq := hq h7 e8
  refine x_putFI fdX26_15 owX26_init_1 xty_I1 dX26_init_11 t6 (Or.inl (by rw [t6]; rfl)) xnI rfl e8 ?_
  refine x_aload_n 0 dX26_init_14 rfl ?_
  refine x_iload_n 3 dX26_init_15 rfl ?_
  obtain ⟨g9, g10, hq⟩ := hq
  obtain ⟨g11, g12, hq⟩ := hq
  obtain ⟨a13, e15⟩ : ∃ y, y = nx h7 + 1 := ⟨_, rfl⟩
  obtain ⟨h14, e16⟩ : ∃ y, y = nA h7 100 (Int32.toNatClampNeg x3) := ⟨_, rfl⟩
  refine x_newa' 0 pk_int dX26_init_16 g9 g10 g11 g12 e15 e16 (fun f17 => ?_)
  replace hq := hq a13 h14 e15 e16 f17
  have t18 : tg h14 a13 = 100 := by rw [e16, e15]; exact tg_nA
  have t19 : tg h7 x0 = 27 := by rw [e8]; exact t6
  have t20 : tg h14 x0 = 27 := by rw [e16]; exact tg_nA_ne e15 f17 t19 (by decide)
  obtain ⟨h21, e22⟩ : ∃ y, y = sR h14 x0 6662 a13 := ⟨_, rfl⟩
  replace hq := hq h21 e22
  refine x_putFR fdX26_19 owX26_init_6 xty_A dX26_init_18 t20 (Or.inl (by rw [t20]; rfl)) rfl e22 ?_
  refine x_aload_n 0 dX26_init_21 rfl ?_
  refine x_iload_n 3 dX26_init_22 rfl ?_
  obtain ⟨g23, g24, hq⟩ := hq
  obtain ⟨g25, g26, hq⟩ := hq
  obtain ⟨a27, e29⟩ : ∃ y, y = nx h21 + 1 := ⟨_, rfl⟩
  obtain ⟨h28, e30⟩ : ∃ y, y = nA h21 100 (Int32.toNatClampNeg x3) := ⟨_, rfl⟩
  refine x_newa' 0 pk_int dX26_init_23 g23 g24 g25 g26 e29 e30 (fun f31 => ?_)
  replace hq := hq a27 h28 e29 e30 f31
  have t32 : tg h28 a27 = 100 := by rw [e30, e29]; exact tg_nA
  have t33 : tg h21 x0 = 27 := by rw [e22]; exact t20
  have t34 : tg h28 x0 = 27 := by rw [e30]; exact tg_nA_ne e29 f31 t33 (by decide)
  obtain ⟨h35, e36⟩ : ∃ y, y = sR h28 x0 6663 a27 := ⟨_, rfl⟩
  replace hq := hq h35 e36
  refine x_putFR fdX26_23 owX26_init_7 xty_A dX26_init_25 t34 (Or.inl (by rw [t34]; rfl)) rfl e36 ?_
  exact x_vret rfl dX26_init_28 hq
theorem rX26_init {G : xG} {fr lo : Nat} {x0 : Nat} {x1 : Nat} {x2 : Int32} {x3 : Int32} {h : xH} {Q : Outcome → xH → Prop} (hq : bX26_init G fr lo x0 x1 x2 x3 h Q) : xR G YX26_init fr lo [rv x0, rv x1, .int x2, .int x3] h Q := by
  show xP _ _ _ _ _ (lv_args 0 _) _ _ _
  rw [show lv_args 0 [rv x0, rv x1, .int x2, .int x3] = [(0, rv x0), (1, rv x1), (2, .int x2), (3, .int x3)] from (xla1 (rv_cat _) (xla1 (rv_cat _) (xla1 rfl (xla1 rfl xla0))))]
  exact uX26_init hq
set_option maxRecDepth 100000 in
theorem dX26_choiceOf_0 : decode cX26_choiceOf 0 = .ok (.aload_n 0, 1) := by decide +kernel
set_option maxRecDepth 100000 in
theorem dX26_choiceOf_1 : decode cX26_choiceOf 1 = .ok (.iload_n 1, 1) := by decide +kernel
set_option maxRecDepth 100000 in
theorem dX26_choiceOf_2 : decode cX26_choiceOf 2 = .ok (.invokevirtual 29, 3) := by decide +kernel
set_option maxRecDepth 100000 in
theorem dX26_choiceOf_5 : decode cX26_choiceOf 5 = .ok (.istore_n 2, 1) := by decide +kernel
set_option maxRecDepth 100000 in
theorem dX26_choiceOf_6 : decode cX26_choiceOf 6 = .ok (.iload_n 2, 1) := by decide +kernel
set_option maxRecDepth 100000 in
theorem dX26_choiceOf_7 : decode cX26_choiceOf 7 = .ok (.aload_n 0, 1) := by decide +kernel
set_option maxRecDepth 100000 in
theorem dX26_choiceOf_8 : decode cX26_choiceOf 8 = .ok (.getfield 26, 3) := by decide +kernel
set_option maxRecDepth 100000 in
theorem dX26_choiceOf_11 : decode cX26_choiceOf 11 = .ok (.if_icmp .ge 22, 3) := by decide +kernel
set_option maxRecDepth 100000 in
theorem dX26_choiceOf_14 : decode cX26_choiceOf 14 = .ok (.aload_n 0, 1) := by decide +kernel
set_option maxRecDepth 100000 in
theorem dX26_choiceOf_15 : decode cX26_choiceOf 15 = .ok (.getfield 19, 3) := by decide +kernel
set_option maxRecDepth 100000 in
theorem dX26_choiceOf_18 : decode cX26_choiceOf 18 = .ok (.iload_n 2, 1) := by decide +kernel
set_option maxRecDepth 100000 in
theorem dX26_choiceOf_19 : decode cX26_choiceOf 19 = .ok (.iaload, 1) := by decide +kernel
set_option maxRecDepth 100000 in
theorem dX26_choiceOf_20 : decode cX26_choiceOf 20 = .ok (.iload_n 1, 1) := by decide +kernel
set_option maxRecDepth 100000 in
theorem dX26_choiceOf_21 : decode cX26_choiceOf 21 = .ok (.if_icmp .ne 12, 3) := by decide +kernel
set_option maxRecDepth 100000 in
theorem dX26_choiceOf_24 : decode cX26_choiceOf 24 = .ok (.aload_n 0, 1) := by decide +kernel
set_option maxRecDepth 100000 in
theorem dX26_choiceOf_25 : decode cX26_choiceOf 25 = .ok (.getfield 23, 3) := by decide +kernel
set_option maxRecDepth 100000 in
theorem dX26_choiceOf_28 : decode cX26_choiceOf 28 = .ok (.iload_n 2, 1) := by decide +kernel
set_option maxRecDepth 100000 in
theorem dX26_choiceOf_29 : decode cX26_choiceOf 29 = .ok (.iaload, 1) := by decide +kernel
set_option maxRecDepth 100000 in
theorem dX26_choiceOf_30 : decode cX26_choiceOf 30 = .ok (.goto 4, 3) := by decide +kernel
set_option maxRecDepth 100000 in
theorem dX26_choiceOf_33 : decode cX26_choiceOf 33 = .ok (.iconst (-1), 1) := by decide +kernel
set_option maxRecDepth 100000 in
theorem dX26_choiceOf_34 : decode cX26_choiceOf 34 = .ok (.ireturn, 1) := by decide +kernel
set_option maxRecDepth 100000 in
def bX26_choiceOf_34 (G : xG) (fr lo : Nat) (s0 : Int32) (h : xH) (Q : Outcome → xH → Prop) : Prop := Q (.returned (some (.int s0))) h
set_option maxRecDepth 100000 in
theorem uX26_choiceOf_34 {G : xG} {fr lo : Nat} {s0 : Int32} {h : xH} {Q : Outcome → xH → Prop} (hq : bX26_choiceOf_34 G fr lo s0 h Q) : xP G YX26_choiceOf fr lo 34 [] [.int s0] h Q := by
  unfold bX26_choiceOf_34 at hq
  exact x_iret rfl rfl dX26_choiceOf_34 hq
set_option maxRecDepth 100000 in
def bX26_choiceOf_33 (G : xG) (fr lo : Nat) (h : xH) (Q : Outcome → xH → Prop) : Prop := bX26_choiceOf_34 G fr lo (-1) h Q
set_option maxRecDepth 100000 in
theorem uX26_choiceOf_33 {G : xG} {fr lo : Nat} {h : xH} {Q : Outcome → xH → Prop} (hq : bX26_choiceOf_33 G fr lo h Q) : xP G YX26_choiceOf fr lo 33 [] [] h Q := by
  unfold bX26_choiceOf_33 at hq
  refine x_iconst (v := (-1)) dX26_choiceOf_33 (by decide) ?_
  exact uX26_choiceOf_34 hq
set_option maxRecDepth 100000 in
def bX26_choiceOf (G : xG) (fr lo : Nat) (x0 : Nat) (x1 : Int32) (h : xH) (Q : Outcome → xH → Prop) : Prop := tg h x0 = 27 ∧ 1 ≤ fr ∧ 16 ≤ lo ∧ xRi G YX26_below (fr - 1) (lo - 16) [rv x0, .int x1] h (fun x5 h4 => xext h h4 → (((fI h4 x0 6664) ≤ x5 → bX26_choiceOf_33 G fr lo h4 Q) ∧ (¬ (fI h4 x0 6664) ≤ x5 → tg h4 (fR h4 x0 6662) = 100 ∧ vp_in x5 (ln h4 (fR h4 x0 6662)) ∧ ((¬ (aI h4 (fR h4 x0 6662) (Int32.toNatClampNeg x5)) = x1 → bX26_choiceOf_33 G fr lo h4 Q) ∧ ((aI h4 (fR h4 x0 6662) (Int32.toNatClampNeg x5)) = x1 → tg h4 (fR h4 x0 6663) = 100 ∧ vp_in x5 (ln h4 (fR h4 x0 6663)) ∧ bX26_choiceOf_34 G fr lo (aI h4 (fR h4 x0 6663) (Int32.toNatClampNeg x5)) h4 Q))))) (fun r h2 => Q (.threw r) h2)
set_option maxRecDepth 100000 in
theorem uX26_choiceOf {G : xG} {fr lo : Nat} {x0 : Nat} {x1 : Int32} {h : xH} {Q : Outcome → xH → Prop} (hq : bX26_choiceOf G fr lo x0 x1 h Q) : xP G YX26_choiceOf fr lo 0 [(0, rv x0), (1, .int x1)] [] h Q := by
  unfold bX26_choiceOf at hq
  refine x_aload_n 0 dX26_choiceOf_0 rfl ?_
  refine x_iload_n 1 dX26_choiceOf_1 rfl ?_
  obtain ⟨g1, hq⟩ := hq
  obtain ⟨g2, g3, hq⟩ := hq
  refine x_callV (Yc := YX26_below) (as := [.int x1]) (st := []) q4255 mvX26_below g1 rfl dX26_choiceOf_2 (xle (xal1 (rv_cat _) (xal1 rfl xal0)) (by decide)) (xfr g2) (xlo xsw0 (by decide) g3) (xKi hq (fun x5 h4 hq e6 => ?_) (fun _ _ q _ => q))
  replace hq := hq e6
  refine x_istore_n (lv' := [(2, .int x5), (0, rv x0), (1, .int x1)]) dX26_choiceOf_5 (by decide) rfl ?_
  refine x_iload_n 0 dX26_choiceOf_6 rfl ?_
  refine x_aload_n 1 dX26_choiceOf_7 rfl ?_
  have t7 : tg h4 x0 = 27 := e6.tg g1 (by decide)
  refine x_get (v := .int (fI h4 x0 6664)) fdX26_26 dX26_choiceOf_8 t7 rfl ?_
  refine x_icmp_ge (tgt := 33) dX26_choiceOf_11 (by decide) (fun c8 => ?_) (fun c8 => ?_)
  · replace hq := hq.1 c8
    refine xP.pick (lv' := []) [] rfl ?_
    exact uX26_choiceOf_33 hq
  · replace hq := hq.2 c8
    refine x_aload_n 1 dX26_choiceOf_14 rfl ?_
    refine x_get (v := rv (fR h4 x0 6662)) fdX26_19 dX26_choiceOf_15 t7 rfl ?_
    refine x_iload_n 0 dX26_choiceOf_18 rfl ?_
    obtain ⟨g9, hq⟩ := hq
    obtain ⟨i10, hq⟩ := hq
    refine x_iald 0 (Or.inl rfl) g9 i10 dX26_choiceOf_19 ?_
    refine x_iload_n 2 dX26_choiceOf_20 rfl ?_
    refine x_icmp_ne (tgt := 33) dX26_choiceOf_21 (by decide) (fun c11 => ?_) (fun c11 => ?_)
    · replace hq := hq.1 c11
      refine xP.pick (lv' := []) [] rfl ?_
      exact uX26_choiceOf_33 hq
    · replace hq := hq.2 c11
      refine x_aload_n 1 dX26_choiceOf_24 rfl ?_
      refine x_get (v := rv (fR h4 x0 6663)) fdX26_23 dX26_choiceOf_25 t7 rfl ?_
      refine x_iload_n 0 dX26_choiceOf_28 rfl ?_
      obtain ⟨g12, hq⟩ := hq
      obtain ⟨i13, hq⟩ := hq
      refine x_iald 0 (Or.inl rfl) g12 i13 dX26_choiceOf_29 ?_
      refine x_goto (tgt := 34) dX26_choiceOf_30 (by decide) ?_
      refine xP.pick (lv' := []) [] rfl ?_
      exact uX26_choiceOf_34 hq
theorem rX26_choiceOf {G : xG} {fr lo : Nat} {x0 : Nat} {x1 : Int32} {h : xH} {Q : Outcome → xH → Prop} (hq : bX26_choiceOf G fr lo x0 x1 h Q) : xR G YX26_choiceOf fr lo [rv x0, .int x1] h Q := by
  show xP _ _ _ _ _ (lv_args 0 _) _ _ _
  rw [show lv_args 0 [rv x0, .int x1] = [(0, rv x0), (1, .int x1)] from (xla1 (rv_cat _) (xla1 rfl xla0))]
  exact uX26_choiceOf hq
set_option maxRecDepth 100000 in
theorem dX26_below_0 : decode cX26_below 0 = .ok (.iconst 0, 1) := by decide +kernel
set_option maxRecDepth 100000 in
theorem dX26_below_1 : decode cX26_below 1 = .ok (.istore_n 2, 1) := by decide +kernel
set_option maxRecDepth 100000 in
theorem dX26_below_2 : decode cX26_below 2 = .ok (.aload_n 0, 1) := by decide +kernel
set_option maxRecDepth 100000 in
theorem dX26_below_3 : decode cX26_below 3 = .ok (.getfield 26, 3) := by decide +kernel
set_option maxRecDepth 100000 in
theorem dX26_below_6 : decode cX26_below 6 = .ok (.istore_n 3, 1) := by decide +kernel
set_option maxRecDepth 100000 in
theorem dX26_below_7 : decode cX26_below 7 = .ok (.iload_n 2, 1) := by decide +kernel
set_option maxRecDepth 100000 in
theorem dX26_below_8 : decode cX26_below 8 = .ok (.iload_n 3, 1) := by decide +kernel
set_option maxRecDepth 100000 in
theorem dX26_below_9 : decode cX26_below 9 = .ok (.if_icmp .ge 35, 3) := by decide +kernel
set_option maxRecDepth 100000 in
theorem dX26_below_12 : decode cX26_below 12 = .ok (.iload_n 2, 1) := by decide +kernel
set_option maxRecDepth 100000 in
theorem dX26_below_13 : decode cX26_below 13 = .ok (.iload_n 3, 1) := by decide +kernel
set_option maxRecDepth 100000 in
theorem dX26_below_14 : decode cX26_below 14 = .ok (.iadd, 1) := by decide +kernel
set_option maxRecDepth 100000 in
theorem dX26_below_15 : decode cX26_below 15 = .ok (.iconst 2, 1) := by decide +kernel
set_option maxRecDepth 100000 in
theorem dX26_below_16 : decode cX26_below 16 = .ok (.idiv, 1) := by decide +kernel
set_option maxRecDepth 100000 in
theorem dX26_below_17 : decode cX26_below 17 = .ok (.istore 4, 2) := by decide +kernel
set_option maxRecDepth 100000 in
theorem dX26_below_19 : decode cX26_below 19 = .ok (.aload_n 0, 1) := by decide +kernel
set_option maxRecDepth 100000 in
theorem dX26_below_20 : decode cX26_below 20 = .ok (.getfield 19, 3) := by decide +kernel
set_option maxRecDepth 100000 in
theorem dX26_below_23 : decode cX26_below 23 = .ok (.iload 4, 2) := by decide +kernel
set_option maxRecDepth 100000 in
theorem dX26_below_25 : decode cX26_below 25 = .ok (.iaload, 1) := by decide +kernel
set_option maxRecDepth 100000 in
theorem dX26_below_26 : decode cX26_below 26 = .ok (.iload_n 1, 1) := by decide +kernel
set_option maxRecDepth 100000 in
theorem dX26_below_27 : decode cX26_below 27 = .ok (.if_icmp .ge 11, 3) := by decide +kernel
set_option maxRecDepth 100000 in
theorem dX26_below_30 : decode cX26_below 30 = .ok (.iload 4, 2) := by decide +kernel
set_option maxRecDepth 100000 in
theorem dX26_below_32 : decode cX26_below 32 = .ok (.iconst 1, 1) := by decide +kernel
set_option maxRecDepth 100000 in
theorem dX26_below_33 : decode cX26_below 33 = .ok (.iadd, 1) := by decide +kernel
set_option maxRecDepth 100000 in
theorem dX26_below_34 : decode cX26_below 34 = .ok (.istore_n 2, 1) := by decide +kernel
set_option maxRecDepth 100000 in
theorem dX26_below_35 : decode cX26_below 35 = .ok (.goto 6, 3) := by decide +kernel
set_option maxRecDepth 100000 in
theorem dX26_below_38 : decode cX26_below 38 = .ok (.iload 4, 2) := by decide +kernel
set_option maxRecDepth 100000 in
theorem dX26_below_40 : decode cX26_below 40 = .ok (.istore_n 3, 1) := by decide +kernel
set_option maxRecDepth 100000 in
theorem dX26_below_41 : decode cX26_below 41 = .ok (.goto (-34), 3) := by decide +kernel
set_option maxRecDepth 100000 in
theorem dX26_below_44 : decode cX26_below 44 = .ok (.iload_n 2, 1) := by decide +kernel
set_option maxRecDepth 100000 in
theorem dX26_below_45 : decode cX26_below 45 = .ok (.ireturn, 1) := by decide +kernel
def lX26_below_7 (G : xG) (fr lo : Nat) (x0 : Nat) (x1 : Int32) (x2 : Int32) (x3 : Int32) (h : xH) (Q : Outcome → xH → Prop) : Prop := xP G YX26_below fr lo 7 [(0, rv x0), (1, .int x1), (2, .int x2), (3, .int x3)] [] h Q
set_option maxRecDepth 100000 in
def bX26_below_41 (G : xG) (fr lo : Nat) (x0 : Nat) (x1 : Int32) (x2 : Int32) (x3 : Int32) (h : xH) (Q : Outcome → xH → Prop) : Prop := lX26_below_7 G fr lo x0 x1 x2 x3 h Q
set_option maxRecDepth 100000 in
theorem uX26_below_41 {G : xG} {fr lo : Nat} {x0 : Nat} {x1 : Int32} {x2 : Int32} {x3 : Int32} {h : xH} {Q : Outcome → xH → Prop} (hq : bX26_below_41 G fr lo x0 x1 x2 x3 h Q) : xP G YX26_below fr lo 41 [(0, rv x0), (1, .int x1), (2, .int x2), (3, .int x3)] [] h Q := by
  unfold bX26_below_41 at hq
  refine x_goto (tgt := 7) dX26_below_41 (by decide) ?_
  exact hq
set_option maxRecDepth 100000 in
def bX26_below_7 (G : xG) (fr lo : Nat) (x0 : Nat) (x1 : Int32) (x2 : Int32) (x3 : Int32) (h : xH) (Q : Outcome → xH → Prop) : Prop := ((x3 ≤ x2 → Q (.returned (some (.int x2))) h) ∧ (¬ x3 ≤ x2 → tg h x0 = 27 ∧ tg h (fR h x0 6662) = 100 ∧ vp_in ((x2 + x3) / 2) (ln h (fR h x0 6662)) ∧ ((x1 ≤ (aI h (fR h x0 6662) (Int32.toNatClampNeg ((x2 + x3) / 2))) → bX26_below_41 G fr lo x0 x1 x2 ((x2 + x3) / 2) h Q) ∧ (¬ x1 ≤ (aI h (fR h x0 6662) (Int32.toNatClampNeg ((x2 + x3) / 2))) → bX26_below_41 G fr lo x0 x1 (((x2 + x3) / 2) + 1) x3 h Q))))
set_option maxRecDepth 100000 in
theorem uX26_below_7 {G : xG} {fr lo : Nat} {x0 : Nat} {x1 : Int32} {x2 : Int32} {x3 : Int32} {h : xH} {Q : Outcome → xH → Prop} (hq : bX26_below_7 G fr lo x0 x1 x2 x3 h Q) : xP G YX26_below fr lo 7 [(0, rv x0), (1, .int x1), (2, .int x2), (3, .int x3)] [] h Q := by
  unfold bX26_below_7 at hq
  refine x_iload_n 2 dX26_below_7 rfl ?_
  refine x_iload_n 3 dX26_below_8 rfl ?_
  refine x_icmp_ge (tgt := 44) dX26_below_9 (by decide) (fun c1 => ?_) (fun c1 => ?_)
  · replace hq := hq.1 c1
    refine x_iload_n 2 dX26_below_44 rfl ?_
    exact x_iret rfl rfl dX26_below_45 hq
  · replace hq := hq.2 c1
    refine x_iload_n 2 dX26_below_12 rfl ?_
    refine x_iload_n 3 dX26_below_13 rfl ?_
    refine x_iadd dX26_below_14 ?_
    refine x_iconst (v := 2) dX26_below_15 (by decide) ?_
    refine x_idiv dX26_below_16 (by decide) ?_
    refine x_istore (lv' := [(4, .int ((x2 + x3) / 2)), (0, rv x0), (1, .int x1), (2, .int x2), (3, .int x3)]) dX26_below_17 (by decide) rfl ?_
    refine x_aload_n 1 dX26_below_19 rfl ?_
    obtain ⟨g2, hq⟩ := hq
    refine x_get (v := rv (fR h x0 6662)) fdX26_19 dX26_below_20 g2 rfl ?_
    refine x_iload 0 dX26_below_23 rfl ?_
    obtain ⟨g3, hq⟩ := hq
    obtain ⟨i4, hq⟩ := hq
    refine x_iald 0 (Or.inl rfl) g3 i4 dX26_below_25 ?_
    refine x_iload_n 2 dX26_below_26 rfl ?_
    refine x_icmp_ge (tgt := 38) dX26_below_27 (by decide) (fun c5 => ?_) (fun c5 => ?_)
    · replace hq := hq.1 c5
      refine x_iload 0 dX26_below_38 rfl ?_
      refine x_istore_n (lv' := [(3, .int ((x2 + x3) / 2)), (4, .int ((x2 + x3) / 2)), (0, rv x0), (1, .int x1), (2, .int x2)]) dX26_below_40 (by decide) rfl ?_
      refine xP.pick (lv' := [(0, rv x0), (1, .int x1), (2, .int x2), (3, .int ((x2 + x3) / 2))]) [2, 3, 4, 0] rfl ?_
      exact uX26_below_41 hq
    · replace hq := hq.2 c5
      refine x_iload 0 dX26_below_30 rfl ?_
      refine x_iconst (v := 1) dX26_below_32 (by decide) ?_
      refine x_iadd dX26_below_33 ?_
      refine x_istore_n (lv' := [(2, .int (((x2 + x3) / 2) + 1)), (4, .int ((x2 + x3) / 2)), (0, rv x0), (1, .int x1), (3, .int x3)]) dX26_below_34 (by decide) rfl ?_
      refine x_goto (tgt := 41) dX26_below_35 (by decide) ?_
      refine xP.pick (lv' := [(0, rv x0), (1, .int x1), (2, .int (((x2 + x3) / 2) + 1)), (3, .int x3)]) [2, 3, 0, 4] rfl ?_
      exact uX26_below_41 hq
set_option maxRecDepth 100000 in
def bX26_below (G : xG) (fr lo : Nat) (x0 : Nat) (x1 : Int32) (h : xH) (Q : Outcome → xH → Prop) : Prop := tg h x0 = 27 ∧ lX26_below_7 G fr lo x0 x1 0 (fI h x0 6664) h Q
set_option maxRecDepth 100000 in
theorem uX26_below {G : xG} {fr lo : Nat} {x0 : Nat} {x1 : Int32} {h : xH} {Q : Outcome → xH → Prop} (hq : bX26_below G fr lo x0 x1 h Q) : xP G YX26_below fr lo 0 [(0, rv x0), (1, .int x1)] [] h Q := by
  unfold bX26_below at hq
  refine x_iconst (v := 0) dX26_below_0 (by decide) ?_
  refine x_istore_n (lv' := [(2, .int 0), (0, rv x0), (1, .int x1)]) dX26_below_1 (by decide) rfl ?_
  refine x_aload_n 1 dX26_below_2 rfl ?_
  obtain ⟨g1, hq⟩ := hq
  refine x_get (v := .int (fI h x0 6664)) fdX26_26 dX26_below_3 g1 rfl ?_
  refine x_istore_n (lv' := [(3, .int (fI h x0 6664)), (2, .int 0), (0, rv x0), (1, .int x1)]) dX26_below_6 (by decide) rfl ?_
  refine xP.pick (lv' := [(0, rv x0), (1, .int x1), (2, .int 0), (3, .int (fI h x0 6664))]) [2, 3, 1, 0] rfl ?_
  exact hq
theorem rX26_below {G : xG} {fr lo : Nat} {x0 : Nat} {x1 : Int32} {h : xH} {Q : Outcome → xH → Prop} (hq : bX26_below G fr lo x0 x1 h Q) : xR G YX26_below fr lo [rv x0, .int x1] h Q := by
  show xP _ _ _ _ _ (lv_args 0 _) _ _ _
  rw [show lv_args 0 [rv x0, .int x1] = [(0, rv x0), (1, .int x1)] from (xla1 (rv_cat _) (xla1 rfl xla0))]
  exact uX26_below hq
set_option maxRecDepth 100000 in
theorem dX26_add_0 : decode cX26_add 0 = .ok (.aload_n 0, 1) := by decide +kernel
set_option maxRecDepth 100000 in
theorem dX26_add_1 : decode cX26_add 1 = .ok (.iload_n 1, 1) := by decide +kernel
set_option maxRecDepth 100000 in
theorem dX26_add_2 : decode cX26_add 2 = .ok (.invokevirtual 29, 3) := by decide +kernel
set_option maxRecDepth 100000 in
theorem dX26_add_5 : decode cX26_add 5 = .ok (.istore_n 3, 1) := by decide +kernel
set_option maxRecDepth 100000 in
theorem dX26_add_6 : decode cX26_add 6 = .ok (.aload_n 0, 1) := by decide +kernel
set_option maxRecDepth 100000 in
theorem dX26_add_7 : decode cX26_add 7 = .ok (.getfield 26, 3) := by decide +kernel
set_option maxRecDepth 100000 in
theorem dX26_add_10 : decode cX26_add 10 = .ok (.istore 4, 2) := by decide +kernel
set_option maxRecDepth 100000 in
theorem dX26_add_12 : decode cX26_add 12 = .ok (.iload 4, 2) := by decide +kernel
set_option maxRecDepth 100000 in
theorem dX26_add_14 : decode cX26_add 14 = .ok (.iload_n 3, 1) := by decide +kernel
set_option maxRecDepth 100000 in
theorem dX26_add_15 : decode cX26_add 15 = .ok (.if_icmp .le 41, 3) := by decide +kernel
set_option maxRecDepth 100000 in
theorem dX26_add_18 : decode cX26_add 18 = .ok (.aload_n 0, 1) := by decide +kernel
set_option maxRecDepth 100000 in
theorem dX26_add_19 : decode cX26_add 19 = .ok (.getfield 19, 3) := by decide +kernel
set_option maxRecDepth 100000 in
theorem dX26_add_22 : decode cX26_add 22 = .ok (.iload 4, 2) := by decide +kernel
set_option maxRecDepth 100000 in
theorem dX26_add_24 : decode cX26_add 24 = .ok (.aload_n 0, 1) := by decide +kernel
set_option maxRecDepth 100000 in
theorem dX26_add_25 : decode cX26_add 25 = .ok (.getfield 19, 3) := by decide +kernel
set_option maxRecDepth 100000 in
theorem dX26_add_28 : decode cX26_add 28 = .ok (.iload 4, 2) := by decide +kernel
set_option maxRecDepth 100000 in
theorem dX26_add_30 : decode cX26_add 30 = .ok (.iconst 1, 1) := by decide +kernel
set_option maxRecDepth 100000 in
theorem dX26_add_31 : decode cX26_add 31 = .ok (.isub, 1) := by decide +kernel
set_option maxRecDepth 100000 in
theorem dX26_add_32 : decode cX26_add 32 = .ok (.iaload, 1) := by decide +kernel
set_option maxRecDepth 100000 in
theorem dX26_add_33 : decode cX26_add 33 = .ok (.iastore, 1) := by decide +kernel
set_option maxRecDepth 100000 in
theorem dX26_add_34 : decode cX26_add 34 = .ok (.aload_n 0, 1) := by decide +kernel
set_option maxRecDepth 100000 in
theorem dX26_add_35 : decode cX26_add 35 = .ok (.getfield 23, 3) := by decide +kernel
set_option maxRecDepth 100000 in
theorem dX26_add_38 : decode cX26_add 38 = .ok (.iload 4, 2) := by decide +kernel
set_option maxRecDepth 100000 in
theorem dX26_add_40 : decode cX26_add 40 = .ok (.aload_n 0, 1) := by decide +kernel
set_option maxRecDepth 100000 in
theorem dX26_add_41 : decode cX26_add 41 = .ok (.getfield 23, 3) := by decide +kernel
set_option maxRecDepth 100000 in
theorem dX26_add_44 : decode cX26_add 44 = .ok (.iload 4, 2) := by decide +kernel
set_option maxRecDepth 100000 in
theorem dX26_add_46 : decode cX26_add 46 = .ok (.iconst 1, 1) := by decide +kernel
set_option maxRecDepth 100000 in
theorem dX26_add_47 : decode cX26_add 47 = .ok (.isub, 1) := by decide +kernel
set_option maxRecDepth 100000 in
theorem dX26_add_48 : decode cX26_add 48 = .ok (.iaload, 1) := by decide +kernel
set_option maxRecDepth 100000 in
theorem dX26_add_49 : decode cX26_add 49 = .ok (.iastore, 1) := by decide +kernel
set_option maxRecDepth 100000 in
theorem dX26_add_50 : decode cX26_add 50 = .ok (.iinc 4 (-1), 3) := by decide +kernel
set_option maxRecDepth 100000 in
theorem dX26_add_53 : decode cX26_add 53 = .ok (.goto (-41), 3) := by decide +kernel
set_option maxRecDepth 100000 in
theorem dX26_add_56 : decode cX26_add 56 = .ok (.aload_n 0, 1) := by decide +kernel
set_option maxRecDepth 100000 in
theorem dX26_add_57 : decode cX26_add 57 = .ok (.getfield 19, 3) := by decide +kernel
set_option maxRecDepth 100000 in
theorem dX26_add_60 : decode cX26_add 60 = .ok (.iload_n 3, 1) := by decide +kernel
set_option maxRecDepth 100000 in
theorem dX26_add_61 : decode cX26_add 61 = .ok (.iload_n 1, 1) := by decide +kernel
set_option maxRecDepth 100000 in
theorem dX26_add_62 : decode cX26_add 62 = .ok (.iastore, 1) := by decide +kernel
set_option maxRecDepth 100000 in
theorem dX26_add_63 : decode cX26_add 63 = .ok (.aload_n 0, 1) := by decide +kernel
set_option maxRecDepth 100000 in
theorem dX26_add_64 : decode cX26_add 64 = .ok (.getfield 23, 3) := by decide +kernel
set_option maxRecDepth 100000 in
theorem dX26_add_67 : decode cX26_add 67 = .ok (.iload_n 3, 1) := by decide +kernel
set_option maxRecDepth 100000 in
theorem dX26_add_68 : decode cX26_add 68 = .ok (.iload_n 2, 1) := by decide +kernel
set_option maxRecDepth 100000 in
theorem dX26_add_69 : decode cX26_add 69 = .ok (.iastore, 1) := by decide +kernel
set_option maxRecDepth 100000 in
theorem dX26_add_70 : decode cX26_add 70 = .ok (.aload_n 0, 1) := by decide +kernel
set_option maxRecDepth 100000 in
theorem dX26_add_71 : decode cX26_add 71 = .ok (.dup, 1) := by decide +kernel
set_option maxRecDepth 100000 in
theorem dX26_add_72 : decode cX26_add 72 = .ok (.getfield 26, 3) := by decide +kernel
set_option maxRecDepth 100000 in
theorem dX26_add_75 : decode cX26_add 75 = .ok (.iconst 1, 1) := by decide +kernel
set_option maxRecDepth 100000 in
theorem dX26_add_76 : decode cX26_add 76 = .ok (.iadd, 1) := by decide +kernel
set_option maxRecDepth 100000 in
theorem dX26_add_77 : decode cX26_add 77 = .ok (.putfield 26, 3) := by decide +kernel
set_option maxRecDepth 100000 in
theorem dX26_add_80 : decode cX26_add 80 = .ok (.return_, 1) := by decide +kernel
def lX26_add_12 (G : xG) (fr lo : Nat) (x0 : Nat) (x1 : Int32) (x2 : Int32) (x3 : Int32) (x4 : Int32) (h : xH) (Q : Outcome → xH → Prop) : Prop := xP G YX26_add fr lo 12 [(0, rv x0), (1, .int x1), (2, .int x2), (3, .int x3), (4, .int x4)] [] h Q
set_option maxRecDepth 100000 in
def bX26_add_12 (G : xG) (fr lo : Nat) (x0 : Nat) (x1 : Int32) (x2 : Int32) (x3 : Int32) (x4 : Int32) (h : xH) (Q : Outcome → xH → Prop) : Prop := ((x4 ≤ x3 → tg h x0 = 27 ∧ tg h (fR h x0 6662) = 100 ∧ vp_in x3 (ln h (fR h x0 6662)) ∧ (∀ h5 : xH, h5 = tI h (fR h x0 6662) (Int32.toNatClampNeg x3) x1 → tg h5 (fR h5 x0 6663) = 100 ∧ vp_in x3 (ln h5 (fR h5 x0 6663)) ∧ (∀ h10 : xH, h10 = tI h5 (fR h5 x0 6663) (Int32.toNatClampNeg x3) x2 → (∀ h13 : xH, h13 = sI h10 x0 6664 ((fI h10 x0 6664) + 1) → Q (.returned none) h13)))) ∧ (¬ x4 ≤ x3 → tg h x0 = 27 ∧ tg h (fR h x0 6662) = 100 ∧ vp_in (x4 - 1) (ln h (fR h x0 6662)) ∧ vp_in x4 (ln h (fR h x0 6662)) ∧ (∀ h19 : xH, h19 = tI h (fR h x0 6662) (Int32.toNatClampNeg x4) (aI h (fR h x0 6662) (Int32.toNatClampNeg (x4 - 1))) → tg h19 (fR h19 x0 6663) = 100 ∧ vp_in (x4 - 1) (ln h19 (fR h19 x0 6663)) ∧ vp_in x4 (ln h19 (fR h19 x0 6663)) ∧ (∀ h25 : xH, h25 = tI h19 (fR h19 x0 6663) (Int32.toNatClampNeg x4) (aI h19 (fR h19 x0 6663) (Int32.toNatClampNeg (x4 - 1))) → lX26_add_12 G fr lo x0 x1 x2 x3 (x4 + (-1)) h25 Q))))
set_option maxRecDepth 100000 in
theorem uX26_add_12 {G : xG} {fr lo : Nat} {x0 : Nat} {x1 : Int32} {x2 : Int32} {x3 : Int32} {x4 : Int32} {h : xH} {Q : Outcome → xH → Prop} (hq : bX26_add_12 G fr lo x0 x1 x2 x3 x4 h Q) : xP G YX26_add fr lo 12 [(0, rv x0), (1, .int x1), (2, .int x2), (3, .int x3), (4, .int x4)] [] h Q := by
  unfold bX26_add_12 at hq
  refine x_iload 4 dX26_add_12 rfl ?_
  refine x_iload_n 3 dX26_add_14 rfl ?_
  refine x_icmp_le (tgt := 56) dX26_add_15 (by decide) (fun c1 => ?_) (fun c1 => ?_)
  · replace hq := hq.1 c1
    refine x_aload_n 0 dX26_add_56 rfl ?_
    obtain ⟨g2, hq⟩ := hq
    refine x_get (v := rv (fR h x0 6662)) fdX26_19 dX26_add_57 g2 rfl ?_
    refine x_iload_n 3 dX26_add_60 rfl ?_
    refine x_iload_n 1 dX26_add_61 rfl ?_
    obtain ⟨g3, hq⟩ := hq
    obtain ⟨i4, hq⟩ := hq
    obtain ⟨h5, e6⟩ : ∃ y, y = tI h (fR h x0 6662) (Int32.toNatClampNeg x3) x1 := ⟨_, rfl⟩
    replace hq := hq h5 e6
    refine x_iast' g3 i4 dX26_add_62 e6 ?_
    refine x_aload_n 0 dX26_add_63 rfl ?_
    have t7 : tg h5 x0 = 27 := by rw [e6]; exact g2
    refine x_get (v := rv (fR h5 x0 6663)) fdX26_23 dX26_add_64 t7 rfl ?_
    refine x_iload_n 3 dX26_add_67 rfl ?_
    refine x_iload_n 2 dX26_add_68 rfl ?_
    obtain ⟨g8, hq⟩ := hq
    obtain ⟨i9, hq⟩ := hq
    obtain ⟨h10, e11⟩ : ∃ y, y = tI h5 (fR h5 x0 6663) (Int32.toNatClampNeg x3) x2 := ⟨_, rfl⟩
    replace hq := hq h10 e11
    refine x_iast' g8 i9 dX26_add_69 e11 ?_
    refine x_aload_n 0 dX26_add_70 rfl ?_
    refine x_dup dX26_add_71 (rv_cat _) ?_
    have t12 : tg h10 x0 = 27 := by rw [e11]; exact t7
    refine x_get (v := .int (fI h10 x0 6664)) fdX26_26 dX26_add_72 t12 rfl ?_
    refine x_iconst (v := 1) dX26_add_75 (by decide) ?_
    refine x_iadd dX26_add_76 ?_
    obtain ⟨h13, e14⟩ : ∃ y, y = sI h10 x0 6664 ((fI h10 x0 6664) + 1) := ⟨_, rfl⟩
    replace hq := hq h13 e14
    refine x_putI fdX26_26 xty_I1 dX26_add_77 t12 (Or.inl (by rw [t12]; rfl)) xnI rfl e14 ?_
    exact x_vret rfl dX26_add_80 hq
  · replace hq := hq.2 c1
    refine x_aload_n 0 dX26_add_18 rfl ?_
    obtain ⟨g15, hq⟩ := hq
    refine x_get (v := rv (fR h x0 6662)) fdX26_19 dX26_add_19 g15 rfl ?_
    refine x_iload 4 dX26_add_22 rfl ?_
    refine x_aload_n 0 dX26_add_24 rfl ?_
    refine x_get (v := rv (fR h x0 6662)) fdX26_19 dX26_add_25 g15 rfl ?_
    refine x_iload 4 dX26_add_28 rfl ?_
    refine x_iconst (v := 1) dX26_add_30 (by decide) ?_
    refine x_isub dX26_add_31 ?_
    obtain ⟨g16, hq⟩ := hq
    obtain ⟨i17, hq⟩ := hq
    refine x_iald 0 (Or.inl rfl) g16 i17 dX26_add_32 ?_
    obtain ⟨i18, hq⟩ := hq
    obtain ⟨h19, e20⟩ : ∃ y, y = tI h (fR h x0 6662) (Int32.toNatClampNeg x4) (aI h (fR h x0 6662) (Int32.toNatClampNeg (x4 - 1))) := ⟨_, rfl⟩
    replace hq := hq h19 e20
    refine x_iast' g16 i18 dX26_add_33 e20 ?_
    refine x_aload_n 0 dX26_add_34 rfl ?_
    have t21 : tg h19 x0 = 27 := by rw [e20]; exact g15
    refine x_get (v := rv (fR h19 x0 6663)) fdX26_23 dX26_add_35 t21 rfl ?_
    refine x_iload 4 dX26_add_38 rfl ?_
    refine x_aload_n 0 dX26_add_40 rfl ?_
    refine x_get (v := rv (fR h19 x0 6663)) fdX26_23 dX26_add_41 t21 rfl ?_
    refine x_iload 4 dX26_add_44 rfl ?_
    refine x_iconst (v := 1) dX26_add_46 (by decide) ?_
    refine x_isub dX26_add_47 ?_
    obtain ⟨g22, hq⟩ := hq
    obtain ⟨i23, hq⟩ := hq
    refine x_iald 0 (Or.inl rfl) g22 i23 dX26_add_48 ?_
    obtain ⟨i24, hq⟩ := hq
    obtain ⟨h25, e26⟩ : ∃ y, y = tI h19 (fR h19 x0 6663) (Int32.toNatClampNeg x4) (aI h19 (fR h19 x0 6663) (Int32.toNatClampNeg (x4 - 1))) := ⟨_, rfl⟩
    replace hq := hq h25 e26
    refine x_iast' g22 i24 dX26_add_49 e26 ?_
    refine x_iinc (lv' := [(4, .int (x4 + (-1))), (0, rv x0), (1, .int x1), (2, .int x2), (3, .int x3)]) 4 dX26_add_50 rfl (by decide) rfl ?_
    refine x_goto (tgt := 12) dX26_add_53 (by decide) ?_
    refine xP.pick (lv' := [(0, rv x0), (1, .int x1), (2, .int x2), (3, .int x3), (4, .int (x4 + (-1)))]) [1, 2, 3, 4, 0] rfl ?_
    exact hq
set_option maxRecDepth 100000 in
def bX26_add (G : xG) (fr lo : Nat) (x0 : Nat) (x1 : Int32) (x2 : Int32) (h : xH) (Q : Outcome → xH → Prop) : Prop := tg h x0 = 27 ∧ 1 ≤ fr ∧ 16 ≤ lo ∧ xRi G YX26_below (fr - 1) (lo - 16) [rv x0, .int x1] h (fun x5 h4 => xext h h4 → lX26_add_12 G fr lo x0 x1 x2 x5 (fI h4 x0 6664) h4 Q) (fun r h2 => Q (.threw r) h2)
set_option maxRecDepth 100000 in
theorem uX26_add {G : xG} {fr lo : Nat} {x0 : Nat} {x1 : Int32} {x2 : Int32} {h : xH} {Q : Outcome → xH → Prop} (hq : bX26_add G fr lo x0 x1 x2 h Q) : xP G YX26_add fr lo 0 [(0, rv x0), (1, .int x1), (2, .int x2)] [] h Q := by
  unfold bX26_add at hq
  refine x_aload_n 0 dX26_add_0 rfl ?_
  refine x_iload_n 1 dX26_add_1 rfl ?_
  obtain ⟨g1, hq⟩ := hq
  obtain ⟨g2, g3, hq⟩ := hq
  refine x_callV (Yc := YX26_below) (as := [.int x1]) (st := []) q4255 mvX26_below g1 rfl dX26_add_2 (xle (xal1 (rv_cat _) (xal1 rfl xal0)) (by decide)) (xfr g2) (xlo xsw0 (by decide) g3) (xKi hq (fun x5 h4 hq e6 => ?_) (fun _ _ q _ => q))
  replace hq := hq e6
  refine x_istore_n (lv' := [(3, .int x5), (0, rv x0), (1, .int x1), (2, .int x2)]) dX26_add_5 (by decide) rfl ?_
  refine x_aload_n 1 dX26_add_6 rfl ?_
  have t7 : tg h4 x0 = 27 := e6.tg g1 (by decide)
  refine x_get (v := .int (fI h4 x0 6664)) fdX26_26 dX26_add_7 t7 rfl ?_
  refine x_istore (lv' := [(4, .int (fI h4 x0 6664)), (3, .int x5), (0, rv x0), (1, .int x1), (2, .int x2)]) dX26_add_10 (by decide) rfl ?_
  refine xP.pick (lv' := [(0, rv x0), (1, .int x1), (2, .int x2), (3, .int x5), (4, .int (fI h4 x0 6664))]) [2, 3, 4, 1, 0] rfl ?_
  exact hq
theorem rX26_add {G : xG} {fr lo : Nat} {x0 : Nat} {x1 : Int32} {x2 : Int32} {h : xH} {Q : Outcome → xH → Prop} (hq : bX26_add G fr lo x0 x1 x2 h Q) : xR G YX26_add fr lo [rv x0, .int x1, .int x2] h Q := by
  show xP _ _ _ _ _ (lv_args 0 _) _ _ _
  rw [show lv_args 0 [rv x0, .int x1, .int x2] = [(0, rv x0), (1, .int x1), (2, .int x2)] from (xla1 (rv_cat _) (xla1 rfl (xla1 rfl xla0)))]
  exact uX26_add hq
