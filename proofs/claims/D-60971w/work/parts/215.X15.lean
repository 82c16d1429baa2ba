/-! PascalHouse$Tree, walked (1) -/
set_option maxRecDepth 100000 in
theorem dX15_init_0 : decode cX15_init 0 = .ok (.aload_n 0, 1) := by decide +kernel
set_option maxRecDepth 100000 in
theorem dX15_init_1 : decode cX15_init 1 = .ok (.invokespecial 1, 3) := by decide +kernel
set_option maxRecDepth 100000 in
theorem dX15_init_4 : decode cX15_init 4 = .ok (.aload_n 0, 1) := by decide +kernel
set_option maxRecDepth 100000 in
theorem dX15_init_5 : decode cX15_init 5 = .ok (.iload_n 1, 1) := by decide +kernel
set_option maxRecDepth 100000 in
theorem dX15_init_6 : decode cX15_init 6 = .ok (.putfield 7, 3) := by decide +kernel
set_option maxRecDepth 100000 in
theorem dX15_init_9 : decode cX15_init 9 = .ok (.aload_n 0, 1) := by decide +kernel
set_option maxRecDepth 100000 in
theorem dX15_init_10 : decode cX15_init 10 = .ok (.aload_n 2, 1) := by decide +kernel
set_option maxRecDepth 100000 in
theorem dX15_init_11 : decode cX15_init 11 = .ok (.putfield 13, 3) := by decide +kernel
set_option maxRecDepth 100000 in
theorem dX15_init_14 : decode cX15_init 14 = .ok (.return_, 1) := by decide +kernel
set_option maxRecDepth 100000 in
def bX15_init (G : xG) (fr lo : Nat) (x0 : Nat) (x1 : Int32) (x2 : Nat) (h : xH) (Q : Outcome → xH → Prop) : Prop := tg h x0 = 16 ∧ 1 ≤ fr ∧ 12 ≤ lo ∧ (∀ h4 : xH, h4 = sI h x0 3840 x1 → (∀ h7 : xH, h7 = sR h4 x0 3841 x2 → Q (.returned none) h7))
set_option maxRecDepth 100000 in
theorem uX15_init {G : xG} {fr lo : Nat} {x0 : Nat} {x1 : Int32} {x2 : Nat} {h : xH} {Q : Outcome → xH → Prop} (hq : bX15_init G fr lo x0 x1 x2 h Q) : xP G YX15_init fr lo 0 [(0, rv x0), (1, .int x1), (2, rv x2)] [] h Q := by
  unfold bX15_init at hq
  refine x_aload_n 0 dX15_init_0 rfl ?_
  obtain ⟨g1, hq⟩ := hq
  obtain ⟨g2, g3, hq⟩ := hq
  refine x_objInit (by rw [g1]; decide) q1752 q438 q439 dX15_init_1 g2 (by simp only [List.map_cons, List.map_nil, List.sum_cons, List.sum_nil, rv_cat, Value.category]; omega) ?_
  refine x_aload_n 0 dX15_init_4 rfl ?_
  refine x_iload_n 1 dX15_init_5 rfl ?_
  obtain ⟨h4, e5⟩ : ∃ y, y = sI h x0 3840 x1 := ⟨_, rfl⟩
  replace hq := hq h4 e5
  refine x_putFI fdX15_7 owX15_init_0 xty_I1 dX15_init_6 g1 (Or.inl (by rw [g1]; rfl)) xnI rfl e5 ?_
  refine x_aload_n 0 dX15_init_9 rfl ?_
  refine x_aload_n 2 dX15_init_10 rfl ?_
  have t6 : tg h4 x0 = 16 := by rw [e5]; exact g1
  obtain ⟨h7, e8⟩ : ∃ y, y = sR h4 x0 3841 x2 := ⟨_, rfl⟩
  replace hq := hq h7 e8
  refine x_putFR fdX15_13 owX15_init_1 xty_O dX15_init_11 t6 (Or.inl (by rw [t6]; rfl)) rfl e8 ?_
  exact x_vret rfl dX15_init_14 hq
theorem rX15_init {G : xG} {fr lo : Nat} {x0 : Nat} {x1 : Int32} {x2 : Nat} {h : xH} {Q : Outcome → xH → Prop} (hq : bX15_init G fr lo x0 x1 x2 h Q) : xR G YX15_init fr lo [rv x0, .int x1, rv x2] h Q := by
  show xP _ _ _ _ _ (lv_args 0 _) _ _ _
  rw [show lv_args 0 [rv x0, .int x1, rv x2] = [(0, rv x0), (1, .int x1), (2, rv x2)] from (xla1 (rv_cat _) (xla1 rfl (xla1 (rv_cat _) xla0)))]
  exact uX15_init hq
set_option maxRecDepth 100000 in
theorem dX15_add_0 : decode cX15_add 0 = .ok (.aload_n 0, 1) := by decide +kernel
set_option maxRecDepth 100000 in
theorem dX15_add_1 : decode cX15_add 1 = .ok (.getfield 17, 3) := by decide +kernel
set_option maxRecDepth 100000 in
theorem dX15_add_4 : decode cX15_add 4 = .ok (.ifnonnull 11, 3) := by decide +kernel
set_option maxRecDepth 100000 in
theorem dX15_add_7 : decode cX15_add 7 = .ok (.aload_n 0, 1) := by decide +kernel
set_option maxRecDepth 100000 in
theorem dX15_add_8 : decode cX15_add 8 = .ok (.aload_n 1, 1) := by decide +kernel
set_option maxRecDepth 100000 in
theorem dX15_add_9 : decode cX15_add 9 = .ok (.putfield 17, 3) := by decide +kernel
set_option maxRecDepth 100000 in
theorem dX15_add_12 : decode cX15_add 12 = .ok (.goto 11, 3) := by decide +kernel
set_option maxRecDepth 100000 in
theorem dX15_add_15 : decode cX15_add 15 = .ok (.aload_n 0, 1) := by decide +kernel
set_option maxRecDepth 100000 in
theorem dX15_add_16 : decode cX15_add 16 = .ok (.getfield 21, 3) := by decide +kernel
set_option maxRecDepth 100000 in
theorem dX15_add_19 : decode cX15_add 19 = .ok (.aload_n 1, 1) := by decide +kernel
set_option maxRecDepth 100000 in
theorem dX15_add_20 : decode cX15_add 20 = .ok (.putfield 24, 3) := by decide +kernel
set_option maxRecDepth 100000 in
theorem dX15_add_23 : decode cX15_add 23 = .ok (.aload_n 0, 1) := by decide +kernel
set_option maxRecDepth 100000 in
theorem dX15_add_24 : decode cX15_add 24 = .ok (.aload_n 1, 1) := by decide +kernel
set_option maxRecDepth 100000 in
theorem dX15_add_25 : decode cX15_add 25 = .ok (.putfield 21, 3) := by decide +kernel
set_option maxRecDepth 100000 in
theorem dX15_add_28 : decode cX15_add 28 = .ok (.aload_n 0, 1) := by decide +kernel
set_option maxRecDepth 100000 in
theorem dX15_add_29 : decode cX15_add 29 = .ok (.dup, 1) := by decide +kernel
set_option maxRecDepth 100000 in
theorem dX15_add_30 : decode cX15_add 30 = .ok (.getfield 27, 3) := by decide +kernel
set_option maxRecDepth 100000 in
theorem dX15_add_33 : decode cX15_add 33 = .ok (.iconst 1, 1) := by decide +kernel
set_option maxRecDepth 100000 in
theorem dX15_add_34 : decode cX15_add 34 = .ok (.iadd, 1) := by decide +kernel
set_option maxRecDepth 100000 in
theorem dX15_add_35 : decode cX15_add 35 = .ok (.putfield 27, 3) := by decide +kernel
set_option maxRecDepth 100000 in
theorem dX15_add_38 : decode cX15_add 38 = .ok (.aload_n 0, 1) := by decide +kernel
set_option maxRecDepth 100000 in
theorem dX15_add_39 : decode cX15_add 39 = .ok (.areturn, 1) := by decide +kernel
set_option maxRecDepth 100000 in
def bX15_add_23 (G : xG) (fr lo : Nat) (x0 : Nat) (x1 : Nat) (h : xH) (Q : Outcome → xH → Prop) : Prop := tg h x0 = 16 ∧ (∀ h2 : xH, h2 = sR h x0 3843 x1 → (∀ h5 : xH, h5 = sI h2 x0 3845 ((fI h2 x0 3845) + 1) → Q (.returned (some (rv x0))) h5))
set_option maxRecDepth 100000 in
theorem uX15_add_23 {G : xG} {fr lo : Nat} {x0 : Nat} {x1 : Nat} {h : xH} {Q : Outcome → xH → Prop} (hq : bX15_add_23 G fr lo x0 x1 h Q) : xP G YX15_add fr lo 23 [(0, rv x0), (1, rv x1)] [] h Q := by
  unfold bX15_add_23 at hq
  refine x_aload_n 0 dX15_add_23 rfl ?_
  refine x_aload_n 1 dX15_add_24 rfl ?_
  obtain ⟨g1, hq⟩ := hq
  obtain ⟨h2, e3⟩ : ∃ y, y = sR h x0 3843 x1 := ⟨_, rfl⟩
  replace hq := hq h2 e3
  refine x_putR fdX15_21 xty_O dX15_add_25 g1 (Or.inl (by rw [g1]; rfl)) rfl e3 ?_
  refine x_aload_n 0 dX15_add_28 rfl ?_
  refine x_dup dX15_add_29 (rv_cat _) ?_
  have t4 : tg h2 x0 = 16 := by rw [e3]; exact g1
  refine x_get (v := .int (fI h2 x0 3845)) fdX15_27 dX15_add_30 t4 rfl ?_
  refine x_iconst (v := 1) dX15_add_33 (by decide) ?_
  refine x_iadd dX15_add_34 ?_
  obtain ⟨h5, e6⟩ : ∃ y, y = sI h2 x0 3845 ((fI h2 x0 3845) + 1) := ⟨_, rfl⟩
  replace hq := hq h5 e6
  refine x_putI fdX15_27 xty_I1 dX15_add_35 t4 (Or.inl (by rw [t4]; rfl)) xnI rfl e6 ?_
  refine x_aload_n 0 dX15_add_38 rfl ?_
  exact x_aret rfl xty_O dX15_add_39 hq
set_option maxRecDepth 100000 in
def bX15_add (G : xG) (fr lo : Nat) (x0 : Nat) (x1 : Nat) (h : xH) (Q : Outcome → xH → Prop) : Prop := tg h x0 = 16 ∧ ((¬ (fR h x0 3842) = 0 → tg h (fR h x0 3843) = 16 ∧ (∀ h4 : xH, h4 = sR h (fR h x0 3843) 3844 x1 → bX15_add_23 G fr lo x0 x1 h4 Q)) ∧ ((fR h x0 3842) = 0 → (∀ h6 : xH, h6 = sR h x0 3842 x1 → bX15_add_23 G fr lo x0 x1 h6 Q)))
set_option maxRecDepth 100000 in
theorem uX15_add {G : xG} {fr lo : Nat} {x0 : Nat} {x1 : Nat} {h : xH} {Q : Outcome → xH → Prop} (hq : bX15_add G fr lo x0 x1 h Q) : xP G YX15_add fr lo 0 [(0, rv x0), (1, rv x1)] [] h Q := by
  unfold bX15_add at hq
  refine x_aload_n 0 dX15_add_0 rfl ?_
  obtain ⟨g1, hq⟩ := hq
  refine x_get (v := rv (fR h x0 3842)) fdX15_17 dX15_add_1 g1 rfl ?_
  refine x_ifnonnull (tgt := 15) dX15_add_4 (by decide) (fun c2 => ?_) (fun c2 => ?_)
  · replace hq := hq.1 c2
    refine x_aload_n 0 dX15_add_15 rfl ?_
    refine x_get (v := rv (fR h x0 3843)) fdX15_21 dX15_add_16 g1 rfl ?_
    refine x_aload_n 1 dX15_add_19 rfl ?_
    obtain ⟨g3, hq⟩ := hq
    obtain ⟨h4, e5⟩ : ∃ y, y = sR h (fR h x0 3843) 3844 x1 := ⟨_, rfl⟩
    replace hq := hq h4 e5
    refine x_putR fdX15_24 xty_O dX15_add_20 g3 (Or.inl (by rw [g3]; rfl)) rfl e5 ?_
    exact uX15_add_23 hq
  · replace hq := hq.2 c2
    refine x_aload_n 0 dX15_add_7 rfl ?_
    refine x_aload_n 1 dX15_add_8 rfl ?_
    obtain ⟨h6, e7⟩ : ∃ y, y = sR h x0 3842 x1 := ⟨_, rfl⟩
    replace hq := hq h6 e7
    refine x_putR fdX15_17 xty_O dX15_add_9 g1 (Or.inl (by rw [g1]; rfl)) rfl e7 ?_
    refine x_goto (tgt := 23) dX15_add_12 (by decide) ?_
    exact uX15_add_23 hq
theorem rX15_add {G : xG} {fr lo : Nat} {x0 : Nat} {x1 : Nat} {h : xH} {Q : Outcome → xH → Prop} (hq : bX15_add G fr lo x0 x1 h Q) : xR G YX15_add fr lo [rv x0, rv x1] h Q := by
  show xP _ _ _ _ _ (lv_args 0 _) _ _ _
  rw [show lv_args 0 [rv x0, rv x1] = [(0, rv x0), (1, rv x1)] from (xla1 (rv_cat _) (xla1 (rv_cat _) xla0))]
  exact uX15_add hq
set_option maxRecDepth 100000 in
theorem dX15_text_0 : decode cX15_text 0 = .ok (.aload_n 0, 1) := by decide +kernel
set_option maxRecDepth 100000 in
theorem dX15_text_1 : decode cX15_text 1 = .ok (.getfield 13, 3) := by decide +kernel
set_option maxRecDepth 100000 in
theorem dX15_text_4 : decode cX15_text 4 = .ok (.getfield 35, 3) := by decide +kernel
set_option maxRecDepth 100000 in
theorem dX15_text_7 : decode cX15_text 7 = .ok (.areturn, 1) := by decide +kernel
set_option maxRecDepth 100000 in
def bX15_text (G : xG) (fr lo : Nat) (x0 : Nat) (h : xH) (Q : Outcome → xH → Prop) : Prop := tg h x0 = 16 ∧ tg h (fR h x0 3841) = 15 ∧ Q (.returned (some (rv (fR h (fR h x0 3841) 3585)))) h
set_option maxRecDepth 100000 in
theorem uX15_text {G : xG} {fr lo : Nat} {x0 : Nat} {h : xH} {Q : Outcome → xH → Prop} (hq : bX15_text G fr lo x0 h Q) : xP G YX15_text fr lo 0 [(0, rv x0)] [] h Q := by
  unfold bX15_text at hq
  refine x_aload_n 0 dX15_text_0 rfl ?_
  obtain ⟨g1, hq⟩ := hq
  refine x_get (v := rv (fR h x0 3841)) fdX15_13 dX15_text_1 g1 rfl ?_
  obtain ⟨g2, hq⟩ := hq
  refine x_getN (v := rv (fR h (fR h x0 3841) 3585)) gfX15_35 dX15_text_4 g2 rfl ?_
  exact x_aret rfl xty_O dX15_text_7 hq
theorem rX15_text {G : xG} {fr lo : Nat} {x0 : Nat} {h : xH} {Q : Outcome → xH → Prop} (hq : bX15_text G fr lo x0 h Q) : xR G YX15_text fr lo [rv x0] h Q := by
  show xP _ _ _ _ _ (lv_args 0 _) _ _ _
  rw [show lv_args 0 [rv x0] = [(0, rv x0)] from (xla1 (rv_cat _) xla0)]
  exact uX15_text hq
set_option maxRecDepth 100000 in
theorem dX15_place_0 : decode cX15_place 0 = .ok (.aload_n 0, 1) := by decide +kernel
set_option maxRecDepth 100000 in
theorem dX15_place_1 : decode cX15_place 1 = .ok (.getfield 13, 3) := by decide +kernel
set_option maxRecDepth 100000 in
theorem dX15_place_4 : decode cX15_place 4 = .ok (.getfield 30, 3) := by decide +kernel
set_option maxRecDepth 100000 in
theorem dX15_place_7 : decode cX15_place 7 = .ok (.ireturn, 1) := by decide +kernel
set_option maxRecDepth 100000 in
def bX15_place (G : xG) (fr lo : Nat) (x0 : Nat) (h : xH) (Q : Outcome → xH → Prop) : Prop := tg h x0 = 16 ∧ tg h (fR h x0 3841) = 15 ∧ Q (.returned (some (.int (fI h (fR h x0 3841) 3586)))) h
set_option maxRecDepth 100000 in
theorem uX15_place {G : xG} {fr lo : Nat} {x0 : Nat} {h : xH} {Q : Outcome → xH → Prop} (hq : bX15_place G fr lo x0 h Q) : xP G YX15_place fr lo 0 [(0, rv x0)] [] h Q := by
  unfold bX15_place at hq
  refine x_aload_n 0 dX15_place_0 rfl ?_
  obtain ⟨g1, hq⟩ := hq
  refine x_get (v := rv (fR h x0 3841)) fdX15_13 dX15_place_1 g1 rfl ?_
  obtain ⟨g2, hq⟩ := hq
  refine x_getN (v := .int (fI h (fR h x0 3841) 3586)) gfX15_30 dX15_place_4 g2 rfl ?_
  exact x_iret rfl rfl dX15_place_7 hq
theorem rX15_place {G : xG} {fr lo : Nat} {x0 : Nat} {h : xH} {Q : Outcome → xH → Prop} (hq : bX15_place G fr lo x0 h Q) : xR G YX15_place fr lo [rv x0] h Q := by
  show xP _ _ _ _ _ (lv_args 0 _) _ _ _
  rw [show lv_args 0 [rv x0] = [(0, rv x0)] from (xla1 (rv_cat _) xla0)]
  exact uX15_place hq
set_option maxRecDepth 100000 in
theorem dX15_kid_0 : decode cX15_kid 0 = .ok (.aload_n 0, 1) := by decide +kernel
set_option maxRecDepth 100000 in
theorem dX15_kid_1 : decode cX15_kid 1 = .ok (.getfield 17, 3) := by decide +kernel
set_option maxRecDepth 100000 in
theorem dX15_kid_4 : decode cX15_kid 4 = .ok (.astore_n 2, 1) := by decide +kernel
set_option maxRecDepth 100000 in
theorem dX15_kid_5 : decode cX15_kid 5 = .ok (.iconst 0, 1) := by decide +kernel
set_option maxRecDepth 100000 in
theorem dX15_kid_6 : decode cX15_kid 6 = .ok (.istore_n 3, 1) := by decide +kernel
set_option maxRecDepth 100000 in
theorem dX15_kid_7 : decode cX15_kid 7 = .ok (.iload_n 3, 1) := by decide +kernel
set_option maxRecDepth 100000 in
theorem dX15_kid_8 : decode cX15_kid 8 = .ok (.iload_n 1, 1) := by decide +kernel
set_option maxRecDepth 100000 in
theorem dX15_kid_9 : decode cX15_kid 9 = .ok (.if_icmp .ge 14, 3) := by decide +kernel
set_option maxRecDepth 100000 in
theorem dX15_kid_12 : decode cX15_kid 12 = .ok (.aload_n 2, 1) := by decide +kernel
set_option maxRecDepth 100000 in
theorem dX15_kid_13 : decode cX15_kid 13 = .ok (.getfield 24, 3) := by decide +kernel
set_option maxRecDepth 100000 in
theorem dX15_kid_16 : decode cX15_kid 16 = .ok (.astore_n 2, 1) := by decide +kernel
set_option maxRecDepth 100000 in
theorem dX15_kid_17 : decode cX15_kid 17 = .ok (.iinc 3 1, 3) := by decide +kernel
set_option maxRecDepth 100000 in
theorem dX15_kid_20 : decode cX15_kid 20 = .ok (.goto (-13), 3) := by decide +kernel
set_option maxRecDepth 100000 in
theorem dX15_kid_23 : decode cX15_kid 23 = .ok (.aload_n 2, 1) := by decide +kernel
set_option maxRecDepth 100000 in
theorem dX15_kid_24 : decode cX15_kid 24 = .ok (.areturn, 1) := by decide +kernel
def lX15_kid_7 (G : xG) (fr lo : Nat) (x1 : Int32) (x2 : Nat) (x3 : Int32) (h : xH) (Q : Outcome → xH → Prop) : Prop := xP G YX15_kid fr lo 7 [(1, .int x1), (2, rv x2), (3, .int x3)] [] h Q
set_option maxRecDepth 100000 in
def bX15_kid_7 (G : xG) (fr lo : Nat) (x1 : Int32) (x2 : Nat) (x3 : Int32) (h : xH) (Q : Outcome → xH → Prop) : Prop := ((x1 ≤ x3 → Q (.returned (some (rv x2))) h) ∧ (¬ x1 ≤ x3 → tg h x2 = 16 ∧ lX15_kid_7 G fr lo x1 (fR h x2 3844) (x3 + 1) h Q))
set_option maxRecDepth 100000 in
theorem uX15_kid_7 {G : xG} {fr lo : Nat} {x1 : Int32} {x2 : Nat} {x3 : Int32} {h : xH} {Q : Outcome → xH → Prop} (hq : bX15_kid_7 G fr lo x1 x2 x3 h Q) : xP G YX15_kid fr lo 7 [(1, .int x1), (2, rv x2), (3, .int x3)] [] h Q := by
  unfold bX15_kid_7 at hq
  refine x_iload_n 2 dX15_kid_7 rfl ?_
  refine x_iload_n 0 dX15_kid_8 rfl ?_
  refine x_icmp_ge (tgt := 23) dX15_kid_9 (by decide) (fun c1 => ?_) (fun c1 => ?_)
  · replace hq := hq.1 c1
    refine x_aload_n 1 dX15_kid_23 rfl ?_
    exact x_aret rfl xty_O dX15_kid_24 hq
  · replace hq := hq.2 c1
    refine x_aload_n 1 dX15_kid_12 rfl ?_
    obtain ⟨g2, hq⟩ := hq
    refine x_get (v := rv (fR h x2 3844)) fdX15_24 dX15_kid_13 g2 rfl ?_
    refine x_astore_n (lv' := [(2, rv (fR h x2 3844)), (1, .int x1), (3, .int x3)]) dX15_kid_16 (by decide) rfl ?_
    refine x_iinc (lv' := [(3, .int (x3 + 1)), (2, rv (fR h x2 3844)), (1, .int x1)]) 2 dX15_kid_17 rfl (by decide) (by first | rfl | (simp [rv_cat, Value.category]; done) | (simp [rv_cat, Value.category]; decide)) ?_
    refine x_goto (tgt := 7) dX15_kid_20 (by decide) ?_
    refine xP.pick (lv' := [(1, .int x1), (2, rv (fR h x2 3844)), (3, .int (x3 + 1))]) [2, 1, 0] rfl ?_
    exact hq
set_option maxRecDepth 100000 in
def bX15_kid (G : xG) (fr lo : Nat) (x0 : Nat) (x1 : Int32) (h : xH) (Q : Outcome → xH → Prop) : Prop := tg h x0 = 16 ∧ lX15_kid_7 G fr lo x1 (fR h x0 3842) 0 h Q
set_option maxRecDepth 100000 in
theorem uX15_kid {G : xG} {fr lo : Nat} {x0 : Nat} {x1 : Int32} {h : xH} {Q : Outcome → xH → Prop} (hq : bX15_kid G fr lo x0 x1 h Q) : xP G YX15_kid fr lo 0 [(0, rv x0), (1, .int x1)] [] h Q := by
  unfold bX15_kid at hq
  refine x_aload_n 0 dX15_kid_0 rfl ?_
  obtain ⟨g1, hq⟩ := hq
  refine x_get (v := rv (fR h x0 3842)) fdX15_17 dX15_kid_1 g1 rfl ?_
  refine x_astore_n (lv' := [(2, rv (fR h x0 3842)), (0, rv x0), (1, .int x1)]) dX15_kid_4 (by decide) rfl ?_
  refine x_iconst (v := 0) dX15_kid_5 (by decide) ?_
  refine x_istore_n (lv' := [(3, .int 0), (2, rv (fR h x0 3842)), (0, rv x0), (1, .int x1)]) dX15_kid_6 (by decide) (by first | rfl | (simp [rv_cat, Value.category]; done) | (simp [rv_cat, Value.category]; decide)) ?_
  refine xP.pick (lv' := [(1, .int x1), (2, rv (fR h x0 3842)), (3, .int 0)]) [3, 1, 0] rfl ?_
  exact hq
theorem rX15_kid {G : xG} {fr lo : Nat} {x0 : Nat} {x1 : Int32} {h : xH} {Q : Outcome → xH → Prop} (hq : bX15_kid G fr lo x0 x1 h Q) : xR G YX15_kid fr lo [rv x0, .int x1] h Q := by
  show xP _ _ _ _ _ (lv_args 0 _) _ _ _
  rw [show lv_args 0 [rv x0, .int x1] = [(0, rv x0), (1, .int x1)] from (xla1 (rv_cat _) (xla1 rfl xla0))]
  exact uX15_kid hq
