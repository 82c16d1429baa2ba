/-! PascalHouse$Type, walked (1) -/
set_option maxRecDepth 100000 in
theorem dX6_init_0 : decode cX6_init 0 = .ok (.aload_n 0, 1) := by decide +kernel
set_option maxRecDepth 100000 in
theorem dX6_init_1 : decode cX6_init 1 = .ok (.invokespecial 3, 3) := by decide +kernel
set_option maxRecDepth 100000 in
theorem dX6_init_4 : decode cX6_init 4 = .ok (.aload_n 0, 1) := by decide +kernel
set_option maxRecDepth 100000 in
theorem dX6_init_5 : decode cX6_init 5 = .ok (.iconst 1, 1) := by decide +kernel
set_option maxRecDepth 100000 in
theorem dX6_init_6 : decode cX6_init 6 = .ok (.putfield 9, 3) := by decide +kernel
set_option maxRecDepth 100000 in
theorem dX6_init_9 : decode cX6_init 9 = .ok (.aload_n 0, 1) := by decide +kernel
set_option maxRecDepth 100000 in
theorem dX6_init_10 : decode cX6_init 10 = .ok (.new 15, 3) := by decide +kernel
set_option maxRecDepth 100000 in
theorem dX6_init_13 : decode cX6_init 13 = .ok (.dup, 1) := by decide +kernel
set_option maxRecDepth 100000 in
theorem dX6_init_14 : decode cX6_init 14 = .ok (.iconst 0, 1) := by decide +kernel
set_option maxRecDepth 100000 in
theorem dX6_init_15 : decode cX6_init 15 = .ok (.invokespecial 17, 3) := by decide +kernel
set_option maxRecDepth 100000 in
theorem dX6_init_18 : decode cX6_init 18 = .ok (.putfield 20, 3) := by decide +kernel
set_option maxRecDepth 100000 in
theorem dX6_init_21 : decode cX6_init 21 = .ok (.aload_n 0, 1) := by decide +kernel
set_option maxRecDepth 100000 in
theorem dX6_init_22 : decode cX6_init 22 = .ok (.iload_n 1, 1) := by decide +kernel
set_option maxRecDepth 100000 in
theorem dX6_init_23 : decode cX6_init 23 = .ok (.putfield 24, 3) := by decide +kernel
set_option maxRecDepth 100000 in
theorem dX6_init_26 : decode cX6_init 26 = .ok (.return_, 1) := by decide +kernel
set_option maxRecDepth 100000 in
def bX6_init (G : xG) (fr lo : Nat) (x0 : Nat) (x1 : Int32) (h : xH) (Q : Outcome → xH → Prop) : Prop := tg h x0 = 7 ∧ 1 ≤ fr ∧ 12 ≤ lo ∧ (∀ h4 : xH, h4 = sI h x0 1543 1 → nx h4 + 1 ≤ xGN G ∧ us h4 + 3 ≤ xGU G ∧ (∀ (a8 : Nat) (h9 : xH), a8 = nx h4 + 1 → h9 = nO h4 29 3 → xfresh h4 a8 → 1 ≤ fr ∧ 15 ≤ lo ∧ xRv G YJ2_init (fr - 1) (lo - 15) [rv a8, .int 0] h9 (fun h16 => xext h9 h16 → (∀ h22 : xH, h22 = sR h16 x0 1544 a8 → (∀ h25 : xH, h25 = sI h22 x0 1536 x1 → Q (.returned none) h25))) (fun r h2 => Q (.threw r) h2)))
set_option maxRecDepth 100000 in
theorem uX6_init {G : xG} {fr lo : Nat} {x0 : Nat} {x1 : Int32} {h : xH} {Q : Outcome → xH → Prop} (hq : bX6_init G fr lo x0 x1 h Q) : xP G YX6_init fr lo 0 [(0, rv x0), (1, .int x1)] [] h Q := by
  unfold bX6_init at hq
  refine x_aload_n 0 dX6_init_0 rfl ?_
  obtain ⟨g1, hq⟩ := hq
  obtain ⟨g2, g3, hq⟩ := hq
  refine x_objInit (by rw [g1]; decide) q692 q438 q439 dX6_init_1 g2 (by simp only [List.map_cons, List.map_nil, List.sum_cons, List.sum_nil, rv_cat, Value.category]; omega) ?_
  refine x_aload_n 0 dX6_init_4 rfl ?_
  refine x_iconst (v := 1) dX6_init_5 (by decide) ?_
  obtain ⟨h4, e5⟩ : ∃ y, y = sI h x0 1543 1 := ⟨_, rfl⟩
  replace hq := hq h4 e5
  refine x_putI fdX6_9 xty_I1 dX6_init_6 g1 (Or.inl (by rw [g1]; rfl)) xnI rfl e5 ?_
  refine x_aload_n 0 dX6_init_9 rfl ?_
  obtain ⟨g6, g7, hq⟩ := hq
  obtain ⟨a8, e10⟩ : ∃ y, y = nx h4 + 1 := ⟨_, rfl⟩
  obtain ⟨h9, e11⟩ : ∃ y, y = nO h4 29 3 := ⟨_, rfl⟩
  refine x_new' cdX6_15 dX6_init_10 g6 g7 e10 e11 (fun f12 => ?_)
  replace hq := hq a8 h9 e10 e11 f12
  have t13 : tg h9 a8 = 29 := by rw [e11, e10]; exact tg_nO
  refine x_dup dX6_init_13 (rv_cat _) ?_
  refine x_iconst (v := 0) dX6_init_14 (by decide) ?_
  obtain ⟨g14, g15, hq⟩ := hq
  refine x_callI (Yc := YJ2_init) (as := [.int 0]) (st := [rv a8, rv x0]) q694 miJ2_init (by rw [t13]; decide) rfl dX6_init_15 (xle (xal1 (rv_cat _) (xal1 rfl xal0)) (by decide)) (xfr g14) (xlo (xsw1 (rv_cat _) (xsw1 (rv_cat _) xsw0)) (by decide) g15) (xKv hq (fun h16 hq e18 => ?_) (fun _ _ q _ => q))
  replace hq := hq e18
  have t19 : tg h4 x0 = 7 := by rw [e5]; exact g1
  have t20 : tg h9 x0 = 7 := by rw [e11]; exact tg_nO_ne e10 f12 t19 (by decide)
  have t21 : tg h16 x0 = 7 := e18.tg t20 (by decide)
  obtain ⟨h22, e23⟩ : ∃ y, y = sR h16 x0 1544 a8 := ⟨_, rfl⟩
  replace hq := hq h22 e23
  refine x_putFR fdX6_20 owX6_init_8 xty_O dX6_init_18 t21 (Or.inl (by rw [t21]; rfl)) rfl e23 ?_
  refine x_aload_n 0 dX6_init_21 rfl ?_
  refine x_iload_n 1 dX6_init_22 rfl ?_
  have t24 : tg h22 x0 = 7 := by rw [e23]; exact t21
  obtain ⟨h25, e26⟩ : ∃ y, y = sI h22 x0 1536 x1 := ⟨_, rfl⟩
  replace hq := hq h25 e26
  refine x_putFI fdX6_24 owX6_init_0 xty_I1 dX6_init_23 t24 (Or.inl (by rw [t24]; rfl)) xnI rfl e26 ?_
  exact x_vret rfl dX6_init_26 hq
theorem rX6_init {G : xG} {fr lo : Nat} {x0 : Nat} {x1 : Int32} {h : xH} {Q : Outcome → xH → Prop} (hq : bX6_init G fr lo x0 x1 h Q) : xR G YX6_init fr lo [rv x0, .int x1] h Q := by
  show xP _ _ _ _ _ (lv_args 0 _) _ _ _
  rw [show lv_args 0 [rv x0, .int x1] = [(0, rv x0), (1, .int x1)] from (xla1 (rv_cat _) (xla1 rfl xla0))]
  exact uX6_init hq
set_option maxRecDepth 100000 in
theorem dX6_bounded_0 : decode cX6_bounded 0 = .ok (.aload_n 0, 1) := by decide +kernel
set_option maxRecDepth 100000 in
theorem dX6_bounded_1 : decode cX6_bounded 1 = .ok (.iload_n 1, 1) := by decide +kernel
set_option maxRecDepth 100000 in
theorem dX6_bounded_2 : decode cX6_bounded 2 = .ok (.putfield 27, 3) := by decide +kernel
set_option maxRecDepth 100000 in
theorem dX6_bounded_5 : decode cX6_bounded 5 = .ok (.aload_n 0, 1) := by decide +kernel
set_option maxRecDepth 100000 in
theorem dX6_bounded_6 : decode cX6_bounded 6 = .ok (.iload_n 2, 1) := by decide +kernel
set_option maxRecDepth 100000 in
theorem dX6_bounded_7 : decode cX6_bounded 7 = .ok (.putfield 30, 3) := by decide +kernel
set_option maxRecDepth 100000 in
theorem dX6_bounded_10 : decode cX6_bounded 10 = .ok (.aload_n 0, 1) := by decide +kernel
set_option maxRecDepth 100000 in
theorem dX6_bounded_11 : decode cX6_bounded 11 = .ok (.areturn, 1) := by decide +kernel
set_option maxRecDepth 100000 in
def bX6_bounded (G : xG) (fr lo : Nat) (x0 : Nat) (x1 : Int32) (x2 : Int32) (h : xH) (Q : Outcome → xH → Prop) : Prop := tg h x0 = 7 ∧ (∀ h2 : xH, h2 = sI h x0 1541 x1 → (∀ h5 : xH, h5 = sI h2 x0 1542 x2 → Q (.returned (some (rv x0))) h5))
set_option maxRecDepth 100000 in
theorem uX6_bounded {G : xG} {fr lo : Nat} {x0 : Nat} {x1 : Int32} {x2 : Int32} {h : xH} {Q : Outcome → xH → Prop} (hq : bX6_bounded G fr lo x0 x1 x2 h Q) : xP G YX6_bounded fr lo 0 [(0, rv x0), (1, .int x1), (2, .int x2)] [] h Q := by
  unfold bX6_bounded at hq
  refine x_aload_n 0 dX6_bounded_0 rfl ?_
  refine x_iload_n 1 dX6_bounded_1 rfl ?_
  obtain ⟨g1, hq⟩ := hq
  obtain ⟨h2, e3⟩ : ∃ y, y = sI h x0 1541 x1 := ⟨_, rfl⟩
  replace hq := hq h2 e3
  refine x_putI fdX6_27 xty_I1 dX6_bounded_2 g1 (Or.inl (by rw [g1]; rfl)) xnI rfl e3 ?_
  refine x_aload_n 0 dX6_bounded_5 rfl ?_
  refine x_iload_n 2 dX6_bounded_6 rfl ?_
  have t4 : tg h2 x0 = 7 := by rw [e3]; exact g1
  obtain ⟨h5, e6⟩ : ∃ y, y = sI h2 x0 1542 x2 := ⟨_, rfl⟩
  replace hq := hq h5 e6
  refine x_putI fdX6_30 xty_I1 dX6_bounded_7 t4 (Or.inl (by rw [t4]; rfl)) xnI rfl e6 ?_
  refine x_aload_n 0 dX6_bounded_10 rfl ?_
  exact x_aret rfl xty_O dX6_bounded_11 hq
theorem rX6_bounded {G : xG} {fr lo : Nat} {x0 : Nat} {x1 : Int32} {x2 : Int32} {h : xH} {Q : Outcome → xH → Prop} (hq : bX6_bounded G fr lo x0 x1 x2 h Q) : xR G YX6_bounded fr lo [rv x0, .int x1, .int x2] h Q := by
  show xP _ _ _ _ _ (lv_args 0 _) _ _ _
  rw [show lv_args 0 [rv x0, .int x1, .int x2] = [(0, rv x0), (1, .int x1), (2, .int x2)] from (xla1 (rv_cat _) (xla1 rfl (xla1 rfl xla0)))]
  exact uX6_bounded hq
set_option maxRecDepth 100000 in
theorem dX6_of_0 : decode cX6_of 0 = .ok (.aload_n 0, 1) := by decide +kernel
set_option maxRecDepth 100000 in
theorem dX6_of_1 : decode cX6_of 1 = .ok (.aload_n 1, 1) := by decide +kernel
set_option maxRecDepth 100000 in
theorem dX6_of_2 : decode cX6_of 2 = .ok (.putfield 33, 3) := by decide +kernel
set_option maxRecDepth 100000 in
theorem dX6_of_5 : decode cX6_of 5 = .ok (.aload_n 0, 1) := by decide +kernel
set_option maxRecDepth 100000 in
theorem dX6_of_6 : decode cX6_of 6 = .ok (.areturn, 1) := by decide +kernel
set_option maxRecDepth 100000 in
def bX6_of (G : xG) (fr lo : Nat) (x0 : Nat) (x1 : Nat) (h : xH) (Q : Outcome → xH → Prop) : Prop := tg h x0 = 7 ∧ (∀ h2 : xH, h2 = sR h x0 1538 x1 → Q (.returned (some (rv x0))) h2)
set_option maxRecDepth 100000 in
theorem uX6_of {G : xG} {fr lo : Nat} {x0 : Nat} {x1 : Nat} {h : xH} {Q : Outcome → xH → Prop} (hq : bX6_of G fr lo x0 x1 h Q) : xP G YX6_of fr lo 0 [(0, rv x0), (1, rv x1)] [] h Q := by
  unfold bX6_of at hq
  refine x_aload_n 0 dX6_of_0 rfl ?_
  refine x_aload_n 1 dX6_of_1 rfl ?_
  obtain ⟨g1, hq⟩ := hq
  obtain ⟨h2, e3⟩ : ∃ y, y = sR h x0 1538 x1 := ⟨_, rfl⟩
  replace hq := hq h2 e3
  refine x_putR fdX6_33 xty_O dX6_of_2 g1 (Or.inl (by rw [g1]; rfl)) rfl e3 ?_
  refine x_aload_n 0 dX6_of_5 rfl ?_
  exact x_aret rfl xty_O dX6_of_6 hq
theorem rX6_of {G : xG} {fr lo : Nat} {x0 : Nat} {x1 : Nat} {h : xH} {Q : Outcome → xH → Prop} (hq : bX6_of G fr lo x0 x1 h Q) : xR G YX6_of fr lo [rv x0, rv x1] h Q := by
  show xP _ _ _ _ _ (lv_args 0 _) _ _ _
  rw [show lv_args 0 [rv x0, rv x1] = [(0, rv x0), (1, rv x1)] from (xla1 (rv_cat _) (xla1 (rv_cat _) xla0))]
  exact uX6_of hq
set_option maxRecDepth 100000 in
theorem dX6_field_0 : decode cX6_field 0 = .ok (.iconst 0, 1) := by decide +kernel
set_option maxRecDepth 100000 in
theorem dX6_field_1 : decode cX6_field 1 = .ok (.istore_n 2, 1) := by decide +kernel
set_option maxRecDepth 100000 in
theorem dX6_field_2 : decode cX6_field 2 = .ok (.iload_n 2, 1) := by decide +kernel
set_option maxRecDepth 100000 in
theorem dX6_field_3 : decode cX6_field 3 = .ok (.aload_n 0, 1) := by decide +kernel
set_option maxRecDepth 100000 in
theorem dX6_field_4 : decode cX6_field 4 = .ok (.getfield 20, 3) := by decide +kernel
set_option maxRecDepth 100000 in
theorem dX6_field_7 : decode cX6_field 7 = .ok (.invokevirtual 47, 3) := by decide +kernel
set_option maxRecDepth 100000 in
theorem dX6_field_10 : decode cX6_field 10 = .ok (.if_icmp .ge 42, 3) := by decide +kernel
set_option maxRecDepth 100000 in
theorem dX6_field_13 : decode cX6_field 13 = .ok (.aload_n 0, 1) := by decide +kernel
set_option maxRecDepth 100000 in
theorem dX6_field_14 : decode cX6_field 14 = .ok (.getfield 20, 3) := by decide +kernel
set_option maxRecDepth 100000 in
theorem dX6_field_17 : decode cX6_field 17 = .ok (.iload_n 2, 1) := by decide +kernel
set_option maxRecDepth 100000 in
theorem dX6_field_18 : decode cX6_field 18 = .ok (.invokevirtual 51, 3) := by decide +kernel
set_option maxRecDepth 100000 in
theorem dX6_field_21 : decode cX6_field 21 = .ok (.checkcast 55, 3) := by decide +kernel
set_option maxRecDepth 100000 in
theorem dX6_field_24 : decode cX6_field 24 = .ok (.getfield 57, 3) := by decide +kernel
set_option maxRecDepth 100000 in
theorem dX6_field_27 : decode cX6_field 27 = .ok (.aload_n 1, 1) := by decide +kernel
set_option maxRecDepth 100000 in
theorem dX6_field_28 : decode cX6_field 28 = .ok (.invokevirtual 61, 3) := by decide +kernel
set_option maxRecDepth 100000 in
theorem dX6_field_31 : decode cX6_field 31 = .ok (.ifCond .eq 15, 3) := by decide +kernel
set_option maxRecDepth 100000 in
theorem dX6_field_34 : decode cX6_field 34 = .ok (.aload_n 0, 1) := by decide +kernel
set_option maxRecDepth 100000 in
theorem dX6_field_35 : decode cX6_field 35 = .ok (.getfield 20, 3) := by decide +kernel
set_option maxRecDepth 100000 in
theorem dX6_field_38 : decode cX6_field 38 = .ok (.iload_n 2, 1) := by decide +kernel
set_option maxRecDepth 100000 in
theorem dX6_field_39 : decode cX6_field 39 = .ok (.invokevirtual 51, 3) := by decide +kernel
set_option maxRecDepth 100000 in
theorem dX6_field_42 : decode cX6_field 42 = .ok (.checkcast 55, 3) := by decide +kernel
set_option maxRecDepth 100000 in
theorem dX6_field_45 : decode cX6_field 45 = .ok (.areturn, 1) := by decide +kernel
set_option maxRecDepth 100000 in
theorem dX6_field_46 : decode cX6_field 46 = .ok (.iinc 2 1, 3) := by decide +kernel
set_option maxRecDepth 100000 in
theorem dX6_field_49 : decode cX6_field 49 = .ok (.goto (-47), 3) := by decide +kernel
set_option maxRecDepth 100000 in
theorem dX6_field_52 : decode cX6_field 52 = .ok (.aconst_null, 1) := by decide +kernel
set_option maxRecDepth 100000 in
theorem dX6_field_53 : decode cX6_field 53 = .ok (.areturn, 1) := by decide +kernel
def lX6_field_2 (G : xG) (fr lo : Nat) (x0 : Nat) (x1 : Nat) (x2 : Int32) (h : xH) (Q : Outcome → xH → Prop) : Prop := xP G YX6_field fr lo 2 [(0, rv x0), (1, rv x1), (2, .int x2)] [] h Q
set_option maxRecDepth 100000 in
def bX6_field_2 (G : xG) (fr lo : Nat) (x0 : Nat) (x1 : Nat) (x2 : Int32) (h : xH) (Q : Outcome → xH → Prop) : Prop := tg h x0 = 7 ∧ tg h (fR h x0 1544) = 29 ∧ 1 ≤ fr ∧ 13 ≤ lo ∧ xRi G YJ2_size (fr - 1) (lo - 13) [rv (fR h x0 1544)] h (fun x6 h5 => xext h h5 → ((x6 ≤ x2 → Q (.returned (some (rv 0))) h5) ∧ (¬ x6 ≤ x2 → tg h5 (fR h5 x0 1544) = 29 ∧ 1 ≤ fr ∧ 13 ≤ lo ∧ xRr G YJ2_get (fr - 1) (lo - 13) [rv (fR h5 x0 1544), .int x2] h5 (fun x14 h13 => xext h5 h13 → tg h13 x14 = 21 ∧ tg h13 (fR h13 x14 5120) = 31 ∧ 1 ≤ fr ∧ 14 ≤ lo ∧ xRi G YJ5_equals (fr - 1) (lo - 14) [rv (fR h13 x14 5120), rv x1] h13 (fun x21 h20 => xext h13 h20 → ((x21 = 0 → lX6_field_2 G fr lo x0 x1 (x2 + 1) h20 Q) ∧ (¬ x21 = 0 → tg h20 (fR h20 x0 1544) = 29 ∧ 1 ≤ fr ∧ 13 ≤ lo ∧ xRr G YJ2_get (fr - 1) (lo - 13) [rv (fR h20 x0 1544), .int x2] h20 (fun x30 h29 => xext h20 h29 → tg h29 x30 = 21 ∧ Q (.returned (some (rv x30))) h29) (fun r h2 => Q (.threw r) h2)))) (fun r h2 => Q (.threw r) h2)) (fun r h2 => Q (.threw r) h2)))) (fun r h2 => Q (.threw r) h2)
set_option maxRecDepth 100000 in
theorem uX6_field_2 {G : xG} {fr lo : Nat} {x0 : Nat} {x1 : Nat} {x2 : Int32} {h : xH} {Q : Outcome → xH → Prop} (hq : bX6_field_2 G fr lo x0 x1 x2 h Q) : xP G YX6_field fr lo 2 [(0, rv x0), (1, rv x1), (2, .int x2)] [] h Q := by
  unfold bX6_field_2 at hq
  refine x_iload_n 2 dX6_field_2 rfl ?_
  refine x_aload_n 0 dX6_field_3 rfl ?_
  obtain ⟨g1, hq⟩ := hq
  refine x_get (v := rv (fR h x0 1544)) fdX6_20 dX6_field_4 g1 rfl ?_
  obtain ⟨g2, hq⟩ := hq
  obtain ⟨g3, g4, hq⟩ := hq
  refine x_callV (Yc := YJ2_size) (as := []) (st := [.int x2]) q2254 mvJ2_size g2 rfl dX6_field_7 (xle (xal1 (rv_cat _) xal0) (by decide)) (xfr g3) (xlo (xsw1 rfl xsw0) (by decide) g4) (xKi hq (fun x6 h5 hq e7 => ?_) (fun _ _ q _ => q))
  replace hq := hq e7
  refine x_icmp_ge (tgt := 52) dX6_field_10 (by decide) (fun c8 => ?_) (fun c8 => ?_)
  · replace hq := hq.1 c8
    refine x_null dX6_field_52 ?_
    exact x_aret rfl xty_O dX6_field_53 hq
  · replace hq := hq.2 c8
    refine x_aload_n 0 dX6_field_13 rfl ?_
    have t9 : tg h5 x0 = 7 := e7.tg g1 (by decide)
    refine x_get (v := rv (fR h5 x0 1544)) fdX6_20 dX6_field_14 t9 rfl ?_
    refine x_iload_n 2 dX6_field_17 rfl ?_
    obtain ⟨g10, hq⟩ := hq
    obtain ⟨g11, g12, hq⟩ := hq
    refine x_callV (Yc := YJ2_get) (as := [.int x2]) (st := []) q2255 mvJ2_get g10 rfl dX6_field_18 (xle (xal1 (rv_cat _) (xal1 rfl xal0)) (by decide)) (xfr g11) (xlo xsw0 (by decide) g12) (xKr hq (fun x14 h13 hq e15 => ?_) (fun _ _ q _ => q))
    replace hq := hq e15
    obtain ⟨g16, hq⟩ := hq
    refine x_cast (ci := 20) (by decide) rfl q2256 g16 dX6_field_21 ?_
    refine x_getN (v := rv (fR h13 x14 5120)) gfX6_57 dX6_field_24 g16 rfl ?_
    refine x_aload_n 1 dX6_field_27 rfl ?_
    obtain ⟨g17, hq⟩ := hq
    obtain ⟨g18, g19, hq⟩ := hq
    refine x_callV (Yc := YJ5_equals) (as := [rv x1]) (st := []) q2257 mvJ5_equals g17 rfl dX6_field_28 (xle (xal1 (rv_cat _) (xal1 (rv_cat _) xal0)) (by decide)) (xfr g18) (xlo xsw0 (by decide) g19) (xKi hq (fun x21 h20 hq e22 => ?_) (fun _ _ q _ => q))
    replace hq := hq e22
    refine x_if_eq (tgt := 46) dX6_field_31 (by decide) (fun c23 => ?_) (fun c23 => ?_)
    · replace hq := hq.1 c23
      refine x_iinc (lv' := [(2, .int (x2 + 1)), (0, rv x0), (1, rv x1)]) 2 dX6_field_46 rfl (by decide) (by first | rfl | (simp [rv_cat, Value.category]; done) | (simp [rv_cat, Value.category]; decide)) ?_
      refine x_goto (tgt := 2) dX6_field_49 (by decide) ?_
      refine xP.pick (lv' := [(0, rv x0), (1, rv x1), (2, .int (x2 + 1))]) [1, 2, 0] rfl ?_
      exact hq
    · replace hq := hq.2 c23
      refine x_aload_n 0 dX6_field_34 rfl ?_
      have t24 : tg h13 x0 = 7 := e15.tg t9 (by decide)
      have t25 : tg h20 x0 = 7 := e22.tg t24 (by decide)
      refine x_get (v := rv (fR h20 x0 1544)) fdX6_20 dX6_field_35 t25 rfl ?_
      refine x_iload_n 2 dX6_field_38 rfl ?_
      obtain ⟨g26, hq⟩ := hq
      obtain ⟨g27, g28, hq⟩ := hq
      refine x_callV (Yc := YJ2_get) (as := [.int x2]) (st := []) q2255 mvJ2_get g26 rfl dX6_field_39 (xle (xal1 (rv_cat _) (xal1 rfl xal0)) (by decide)) (xfr g27) (xlo xsw0 (by decide) g28) (xKr hq (fun x30 h29 hq e31 => ?_) (fun _ _ q _ => q))
      replace hq := hq e31
      obtain ⟨g32, hq⟩ := hq
      refine x_cast (ci := 20) (by decide) rfl q2256 g32 dX6_field_42 ?_
      exact x_aret rfl xty_O dX6_field_45 hq
set_option maxRecDepth 100000 in
def bX6_field (G : xG) (fr lo : Nat) (x0 : Nat) (x1 : Nat) (h : xH) (Q : Outcome → xH → Prop) : Prop := lX6_field_2 G fr lo x0 x1 0 h Q
set_option maxRecDepth 100000 in
theorem uX6_field {G : xG} {fr lo : Nat} {x0 : Nat} {x1 : Nat} {h : xH} {Q : Outcome → xH → Prop} (hq : bX6_field G fr lo x0 x1 h Q) : xP G YX6_field fr lo 0 [(0, rv x0), (1, rv x1)] [] h Q := by
  unfold bX6_field at hq
  refine x_iconst (v := 0) dX6_field_0 (by decide) ?_
  refine x_istore_n (lv' := [(2, .int 0), (0, rv x0), (1, rv x1)]) dX6_field_1 (by decide) (by first | rfl | (simp [rv_cat, Value.category]; done) | (simp [rv_cat, Value.category]; decide)) ?_
  refine xP.pick (lv' := [(0, rv x0), (1, rv x1), (2, .int 0)]) [1, 2, 0] rfl ?_
  exact hq
theorem rX6_field {G : xG} {fr lo : Nat} {x0 : Nat} {x1 : Nat} {h : xH} {Q : Outcome → xH → Prop} (hq : bX6_field G fr lo x0 x1 h Q) : xR G YX6_field fr lo [rv x0, rv x1] h Q := by
  show xP _ _ _ _ _ (lv_args 0 _) _ _ _
  rw [show lv_args 0 [rv x0, rv x1] = [(0, rv x0), (1, rv x1)] from (xla1 (rv_cat _) (xla1 (rv_cat _) xla0))]
  exact uX6_field hq
set_option maxRecDepth 100000 in
theorem dX6_isNumber_0 : decode cX6_isNumber 0 = .ok (.aload_n 0, 1) := by decide +kernel
set_option maxRecDepth 100000 in
theorem dX6_isNumber_1 : decode cX6_isNumber 1 = .ok (.invokevirtual 40, 3) := by decide +kernel
set_option maxRecDepth 100000 in
theorem dX6_isNumber_4 : decode cX6_isNumber 4 = .ok (.getfield 24, 3) := by decide +kernel
set_option maxRecDepth 100000 in
theorem dX6_isNumber_7 : decode cX6_isNumber 7 = .ok (.ifCond .eq 11, 3) := by decide +kernel
set_option maxRecDepth 100000 in
theorem dX6_isNumber_10 : decode cX6_isNumber 10 = .ok (.aload_n 0, 1) := by decide +kernel
set_option maxRecDepth 100000 in
theorem dX6_isNumber_11 : decode cX6_isNumber 11 = .ok (.getfield 24, 3) := by decide +kernel
set_option maxRecDepth 100000 in
theorem dX6_isNumber_14 : decode cX6_isNumber 14 = .ok (.iconst 1, 1) := by decide +kernel
set_option maxRecDepth 100000 in
theorem dX6_isNumber_15 : decode cX6_isNumber 15 = .ok (.if_icmp .ne 7, 3) := by decide +kernel
set_option maxRecDepth 100000 in
theorem dX6_isNumber_18 : decode cX6_isNumber 18 = .ok (.iconst 1, 1) := by decide +kernel
set_option maxRecDepth 100000 in
theorem dX6_isNumber_19 : decode cX6_isNumber 19 = .ok (.goto 4, 3) := by decide +kernel
set_option maxRecDepth 100000 in
theorem dX6_isNumber_22 : decode cX6_isNumber 22 = .ok (.iconst 0, 1) := by decide +kernel
set_option maxRecDepth 100000 in
theorem dX6_isNumber_23 : decode cX6_isNumber 23 = .ok (.ireturn, 1) := by decide +kernel
set_option maxRecDepth 100000 in
def bX6_isNumber_23 (G : xG) (fr lo : Nat) (s0 : Int32) (h : xH) (Q : Outcome → xH → Prop) : Prop := xbz s0 ∧ Q (.returned (some (.int s0))) h
set_option maxRecDepth 100000 in
theorem uX6_isNumber_23 {G : xG} {fr lo : Nat} {s0 : Int32} {h : xH} {Q : Outcome → xH → Prop} (hq : bX6_isNumber_23 G fr lo s0 h Q) : xP G YX6_isNumber fr lo 23 [] [.int s0] h Q := by
  unfold bX6_isNumber_23 at hq
  obtain ⟨g1, hq⟩ := hq
  exact x_iret rfl (xnZ g1) dX6_isNumber_23 hq
set_option maxRecDepth 100000 in
def bX6_isNumber_18 (G : xG) (fr lo : Nat) (h : xH) (Q : Outcome → xH → Prop) : Prop := bX6_isNumber_23 G fr lo 1 h Q
set_option maxRecDepth 100000 in
theorem uX6_isNumber_18 {G : xG} {fr lo : Nat} {h : xH} {Q : Outcome → xH → Prop} (hq : bX6_isNumber_18 G fr lo h Q) : xP G YX6_isNumber fr lo 18 [] [] h Q := by
  unfold bX6_isNumber_18 at hq
  refine x_iconst (v := 1) dX6_isNumber_18 (by decide) ?_
  refine x_goto (tgt := 23) dX6_isNumber_19 (by decide) ?_
  exact uX6_isNumber_23 hq
set_option maxRecDepth 100000 in
def bX6_isNumber (G : xG) (fr lo : Nat) (x0 : Nat) (h : xH) (Q : Outcome → xH → Prop) : Prop := tg h x0 = 7 ∧ 1 ≤ fr ∧ 12 ≤ lo ∧ xRr G YX6_own (fr - 1) (lo - 12) [rv x0] h (fun x5 h4 => xext h h4 → tg h4 x5 = 7 ∧ (((fI h4 x5 1536) = 0 → bX6_isNumber_18 G fr lo h4 Q) ∧ (¬ (fI h4 x5 1536) = 0 → ((¬ (fI h4 x0 1536) = 1 → bX6_isNumber_23 G fr lo 0 h4 Q) ∧ ((fI h4 x0 1536) = 1 → bX6_isNumber_18 G fr lo h4 Q))))) (fun r h2 => Q (.threw r) h2)
set_option maxRecDepth 100000 in
theorem uX6_isNumber {G : xG} {fr lo : Nat} {x0 : Nat} {h : xH} {Q : Outcome → xH → Prop} (hq : bX6_isNumber G fr lo x0 h Q) : xP G YX6_isNumber fr lo 0 [(0, rv x0)] [] h Q := by
  unfold bX6_isNumber at hq
  refine x_aload_n 0 dX6_isNumber_0 rfl ?_
  obtain ⟨g1, hq⟩ := hq
  obtain ⟨g2, g3, hq⟩ := hq
  refine x_callV (Yc := YX6_own) (as := []) (st := []) q2262 mvX6_own g1 rfl dX6_isNumber_1 (xle (xal1 (rv_cat _) xal0) (by decide)) (xfr g2) (xlo xsw0 (by decide) g3) (xKr hq (fun x5 h4 hq e6 => ?_) (fun _ _ q _ => q))
  replace hq := hq e6
  obtain ⟨g7, hq⟩ := hq
  refine x_get (v := .int (fI h4 x5 1536)) fdX6_24 dX6_isNumber_4 g7 rfl ?_
  refine x_if_eq (tgt := 18) dX6_isNumber_7 (by decide) (fun c8 => ?_) (fun c8 => ?_)
  · replace hq := hq.1 c8
    refine xP.pick (lv' := []) [] rfl ?_
    exact uX6_isNumber_18 hq
  · replace hq := hq.2 c8
    refine x_aload_n 0 dX6_isNumber_10 rfl ?_
    have t9 : tg h4 x0 = 7 := e6.tg g1 (by decide)
    refine x_get (v := .int (fI h4 x0 1536)) fdX6_24 dX6_isNumber_11 t9 rfl ?_
    refine x_iconst (v := 1) dX6_isNumber_14 (by decide) ?_
    refine x_icmp_ne (tgt := 22) dX6_isNumber_15 (by decide) (fun c10 => ?_) (fun c10 => ?_)
    · replace hq := hq.1 c10
      refine x_iconst (v := 0) dX6_isNumber_22 (by decide) ?_
      refine xP.pick (lv' := []) [] rfl ?_
      exact uX6_isNumber_23 hq
    · replace hq := hq.2 c10
      refine xP.pick (lv' := []) [] rfl ?_
      exact uX6_isNumber_18 hq
theorem rX6_isNumber {G : xG} {fr lo : Nat} {x0 : Nat} {h : xH} {Q : Outcome → xH → Prop} (hq : bX6_isNumber G fr lo x0 h Q) : xR G YX6_isNumber fr lo [rv x0] h Q := by
  show xP _ _ _ _ _ (lv_args 0 _) _ _ _
  rw [show lv_args 0 [rv x0] = [(0, rv x0)] from (xla1 (rv_cat _) xla0)]
  exact uX6_isNumber hq
set_option maxRecDepth 100000 in
theorem dX6_own_0 : decode cX6_own 0 = .ok (.aload_n 0, 1) := by decide +kernel
set_option maxRecDepth 100000 in
theorem dX6_own_1 : decode cX6_own 1 = .ok (.getfield 24, 3) := by decide +kernel
set_option maxRecDepth 100000 in
theorem dX6_own_4 : decode cX6_own 4 = .ok (.iconst 5, 1) := by decide +kernel
set_option maxRecDepth 100000 in
theorem dX6_own_5 : decode cX6_own 5 = .ok (.if_icmp .ne 10, 3) := by decide +kernel
set_option maxRecDepth 100000 in
theorem dX6_own_8 : decode cX6_own 8 = .ok (.aload_n 0, 1) := by decide +kernel
set_option maxRecDepth 100000 in
theorem dX6_own_9 : decode cX6_own 9 = .ok (.getfield 37, 3) := by decide +kernel
set_option maxRecDepth 100000 in
theorem dX6_own_12 : decode cX6_own 12 = .ok (.goto 4, 3) := by decide +kernel
set_option maxRecDepth 100000 in
theorem dX6_own_15 : decode cX6_own 15 = .ok (.aload_n 0, 1) := by decide +kernel
set_option maxRecDepth 100000 in
theorem dX6_own_16 : decode cX6_own 16 = .ok (.areturn, 1) := by decide +kernel
set_option maxRecDepth 100000 in
def bX6_own_16 (G : xG) (fr lo : Nat) (s0 : Nat) (h : xH) (Q : Outcome → xH → Prop) : Prop := Q (.returned (some (rv s0))) h
set_option maxRecDepth 100000 in
theorem uX6_own_16 {G : xG} {fr lo : Nat} {s0 : Nat} {h : xH} {Q : Outcome → xH → Prop} (hq : bX6_own_16 G fr lo s0 h Q) : xP G YX6_own fr lo 16 [] [rv s0] h Q := by
  unfold bX6_own_16 at hq
  exact x_aret rfl xty_O dX6_own_16 hq
set_option maxRecDepth 100000 in
def bX6_own (G : xG) (fr lo : Nat) (x0 : Nat) (h : xH) (Q : Outcome → xH → Prop) : Prop := tg h x0 = 7 ∧ ((¬ (fI h x0 1536) = 5 → bX6_own_16 G fr lo x0 h Q) ∧ ((fI h x0 1536) = 5 → bX6_own_16 G fr lo (fR h x0 1537) h Q))
set_option maxRecDepth 100000 in
theorem uX6_own {G : xG} {fr lo : Nat} {x0 : Nat} {h : xH} {Q : Outcome → xH → Prop} (hq : bX6_own G fr lo x0 h Q) : xP G YX6_own fr lo 0 [(0, rv x0)] [] h Q := by
  unfold bX6_own at hq
  refine x_aload_n 0 dX6_own_0 rfl ?_
  obtain ⟨g1, hq⟩ := hq
  refine x_get (v := .int (fI h x0 1536)) fdX6_24 dX6_own_1 g1 rfl ?_
  refine x_iconst (v := 5) dX6_own_4 (by decide) ?_
  refine x_icmp_ne (tgt := 15) dX6_own_5 (by decide) (fun c2 => ?_) (fun c2 => ?_)
  · replace hq := hq.1 c2
    refine x_aload_n 0 dX6_own_15 rfl ?_
    refine xP.pick (lv' := []) [] rfl ?_
    exact uX6_own_16 hq
  · replace hq := hq.2 c2
    refine x_aload_n 0 dX6_own_8 rfl ?_
    refine x_get (v := rv (fR h x0 1537)) fdX6_37 dX6_own_9 g1 rfl ?_
    refine x_goto (tgt := 16) dX6_own_12 (by decide) ?_
    refine xP.pick (lv' := []) [] rfl ?_
    exact uX6_own_16 hq
theorem rX6_own {G : xG} {fr lo : Nat} {x0 : Nat} {h : xH} {Q : Outcome → xH → Prop} (hq : bX6_own G fr lo x0 h Q) : xR G YX6_own fr lo [rv x0] h Q := by
  show xP _ _ _ _ _ (lv_args 0 _) _ _ _
  rw [show lv_args 0 [rv x0] = [(0, rv x0)] from (xla1 (rv_cat _) xla0)]
  exact uX6_own hq
set_option maxRecDepth 100000 in
theorem dX6_isOrdinal_0 : decode cX6_isOrdinal 0 = .ok (.aload_n 0, 1) := by decide +kernel
set_option maxRecDepth 100000 in
theorem dX6_isOrdinal_1 : decode cX6_isOrdinal 1 = .ok (.getfield 24, 3) := by decide +kernel
set_option maxRecDepth 100000 in
theorem dX6_isOrdinal_4 : decode cX6_isOrdinal 4 = .ok (.iconst 5, 1) := by decide +kernel
set_option maxRecDepth 100000 in
theorem dX6_isOrdinal_5 : decode cX6_isOrdinal 5 = .ok (.if_icmp .gt 15, 3) := by decide +kernel
set_option maxRecDepth 100000 in
theorem dX6_isOrdinal_8 : decode cX6_isOrdinal 8 = .ok (.aload_n 0, 1) := by decide +kernel
set_option maxRecDepth 100000 in
theorem dX6_isOrdinal_9 : decode cX6_isOrdinal 9 = .ok (.getfield 24, 3) := by decide +kernel
set_option maxRecDepth 100000 in
theorem dX6_isOrdinal_12 : decode cX6_isOrdinal 12 = .ok (.iconst 1, 1) := by decide +kernel
set_option maxRecDepth 100000 in
theorem dX6_isOrdinal_13 : decode cX6_isOrdinal 13 = .ok (.if_icmp .eq 7, 3) := by decide +kernel
set_option maxRecDepth 100000 in
theorem dX6_isOrdinal_16 : decode cX6_isOrdinal 16 = .ok (.iconst 1, 1) := by decide +kernel
set_option maxRecDepth 100000 in
theorem dX6_isOrdinal_17 : decode cX6_isOrdinal 17 = .ok (.goto 4, 3) := by decide +kernel
set_option maxRecDepth 100000 in
theorem dX6_isOrdinal_20 : decode cX6_isOrdinal 20 = .ok (.iconst 0, 1) := by decide +kernel
set_option maxRecDepth 100000 in
theorem dX6_isOrdinal_21 : decode cX6_isOrdinal 21 = .ok (.ireturn, 1) := by decide +kernel
set_option maxRecDepth 100000 in
def bX6_isOrdinal_21 (G : xG) (fr lo : Nat) (s0 : Int32) (h : xH) (Q : Outcome → xH → Prop) : Prop := xbz s0 ∧ Q (.returned (some (.int s0))) h
set_option maxRecDepth 100000 in
theorem uX6_isOrdinal_21 {G : xG} {fr lo : Nat} {s0 : Int32} {h : xH} {Q : Outcome → xH → Prop} (hq : bX6_isOrdinal_21 G fr lo s0 h Q) : xP G YX6_isOrdinal fr lo 21 [] [.int s0] h Q := by
  unfold bX6_isOrdinal_21 at hq
  obtain ⟨g1, hq⟩ := hq
  exact x_iret rfl (xnZ g1) dX6_isOrdinal_21 hq
set_option maxRecDepth 100000 in
def bX6_isOrdinal_20 (G : xG) (fr lo : Nat) (h : xH) (Q : Outcome → xH → Prop) : Prop := bX6_isOrdinal_21 G fr lo 0 h Q
set_option maxRecDepth 100000 in
theorem uX6_isOrdinal_20 {G : xG} {fr lo : Nat} {h : xH} {Q : Outcome → xH → Prop} (hq : bX6_isOrdinal_20 G fr lo h Q) : xP G YX6_isOrdinal fr lo 20 [] [] h Q := by
  unfold bX6_isOrdinal_20 at hq
  refine x_iconst (v := 0) dX6_isOrdinal_20 (by decide) ?_
  exact uX6_isOrdinal_21 hq
set_option maxRecDepth 100000 in
def bX6_isOrdinal (G : xG) (fr lo : Nat) (x0 : Nat) (h : xH) (Q : Outcome → xH → Prop) : Prop := tg h x0 = 7 ∧ ((5 < (fI h x0 1536) → bX6_isOrdinal_20 G fr lo h Q) ∧ (¬ 5 < (fI h x0 1536) → (((fI h x0 1536) = 1 → bX6_isOrdinal_20 G fr lo h Q) ∧ (¬ (fI h x0 1536) = 1 → bX6_isOrdinal_21 G fr lo 1 h Q))))
set_option maxRecDepth 100000 in
theorem uX6_isOrdinal {G : xG} {fr lo : Nat} {x0 : Nat} {h : xH} {Q : Outcome → xH → Prop} (hq : bX6_isOrdinal G fr lo x0 h Q) : xP G YX6_isOrdinal fr lo 0 [(0, rv x0)] [] h Q := by
  unfold bX6_isOrdinal at hq
  refine x_aload_n 0 dX6_isOrdinal_0 rfl ?_
  obtain ⟨g1, hq⟩ := hq
  refine x_get (v := .int (fI h x0 1536)) fdX6_24 dX6_isOrdinal_1 g1 rfl ?_
  refine x_iconst (v := 5) dX6_isOrdinal_4 (by decide) ?_
  refine x_icmp_gt (tgt := 20) dX6_isOrdinal_5 (by decide) (fun c2 => ?_) (fun c2 => ?_)
  · replace hq := hq.1 c2
    refine xP.pick (lv' := []) [] rfl ?_
    exact uX6_isOrdinal_20 hq
  · replace hq := hq.2 c2
    refine x_aload_n 0 dX6_isOrdinal_8 rfl ?_
    refine x_get (v := .int (fI h x0 1536)) fdX6_24 dX6_isOrdinal_9 g1 rfl ?_
    refine x_iconst (v := 1) dX6_isOrdinal_12 (by decide) ?_
    refine x_icmp_eq (tgt := 20) dX6_isOrdinal_13 (by decide) (fun c3 => ?_) (fun c3 => ?_)
    · replace hq := hq.1 c3
      refine xP.pick (lv' := []) [] rfl ?_
      exact uX6_isOrdinal_20 hq
    · replace hq := hq.2 c3
      refine x_iconst (v := 1) dX6_isOrdinal_16 (by decide) ?_
      refine x_goto (tgt := 21) dX6_isOrdinal_17 (by decide) ?_
      refine xP.pick (lv' := []) [] rfl ?_
      exact uX6_isOrdinal_21 hq
theorem rX6_isOrdinal {G : xG} {fr lo : Nat} {x0 : Nat} {h : xH} {Q : Outcome → xH → Prop} (hq : bX6_isOrdinal G fr lo x0 h Q) : xR G YX6_isOrdinal fr lo [rv x0] h Q := by
  show xP _ _ _ _ _ (lv_args 0 _) _ _ _
  rw [show lv_args 0 [rv x0] = [(0, rv x0)] from (xla1 (rv_cat _) xla0)]
  exact uX6_isOrdinal hq
set_option maxRecDepth 100000 in
theorem dX6_isSimple_0 : decode cX6_isSimple 0 = .ok (.aload_n 0, 1) := by decide +kernel
set_option maxRecDepth 100000 in
theorem dX6_isSimple_1 : decode cX6_isSimple 1 = .ok (.getfield 24, 3) := by decide +kernel
set_option maxRecDepth 100000 in
theorem dX6_isSimple_4 : decode cX6_isSimple 4 = .ok (.iconst 5, 1) := by decide +kernel
set_option maxRecDepth 100000 in
theorem dX6_isSimple_5 : decode cX6_isSimple 5 = .ok (.if_icmp .gt 7, 3) := by decide +kernel
set_option maxRecDepth 100000 in
theorem dX6_isSimple_8 : decode cX6_isSimple 8 = .ok (.iconst 1, 1) := by decide +kernel
set_option maxRecDepth 100000 in
theorem dX6_isSimple_9 : decode cX6_isSimple 9 = .ok (.goto 4, 3) := by decide +kernel
set_option maxRecDepth 100000 in
theorem dX6_isSimple_12 : decode cX6_isSimple 12 = .ok (.iconst 0, 1) := by decide +kernel
set_option maxRecDepth 100000 in
theorem dX6_isSimple_13 : decode cX6_isSimple 13 = .ok (.ireturn, 1) := by decide +kernel
set_option maxRecDepth 100000 in
def bX6_isSimple_13 (G : xG) (fr lo : Nat) (s0 : Int32) (h : xH) (Q : Outcome → xH → Prop) : Prop := xbz s0 ∧ Q (.returned (some (.int s0))) h
set_option maxRecDepth 100000 in
theorem uX6_isSimple_13 {G : xG} {fr lo : Nat} {s0 : Int32} {h : xH} {Q : Outcome → xH → Prop} (hq : bX6_isSimple_13 G fr lo s0 h Q) : xP G YX6_isSimple fr lo 13 [] [.int s0] h Q := by
  unfold bX6_isSimple_13 at hq
  obtain ⟨g1, hq⟩ := hq
  exact x_iret rfl (xnZ g1) dX6_isSimple_13 hq
set_option maxRecDepth 100000 in
def bX6_isSimple (G : xG) (fr lo : Nat) (x0 : Nat) (h : xH) (Q : Outcome → xH → Prop) : Prop := tg h x0 = 7 ∧ ((5 < (fI h x0 1536) → bX6_isSimple_13 G fr lo 0 h Q) ∧ (¬ 5 < (fI h x0 1536) → bX6_isSimple_13 G fr lo 1 h Q))
set_option maxRecDepth 100000 in
theorem uX6_isSimple {G : xG} {fr lo : Nat} {x0 : Nat} {h : xH} {Q : Outcome → xH → Prop} (hq : bX6_isSimple G fr lo x0 h Q) : xP G YX6_isSimple fr lo 0 [(0, rv x0)] [] h Q := by
  unfold bX6_isSimple at hq
  refine x_aload_n 0 dX6_isSimple_0 rfl ?_
  obtain ⟨g1, hq⟩ := hq
  refine x_get (v := .int (fI h x0 1536)) fdX6_24 dX6_isSimple_1 g1 rfl ?_
  refine x_iconst (v := 5) dX6_isSimple_4 (by decide) ?_
  refine x_icmp_gt (tgt := 12) dX6_isSimple_5 (by decide) (fun c2 => ?_) (fun c2 => ?_)
  · replace hq := hq.1 c2
    refine x_iconst (v := 0) dX6_isSimple_12 (by decide) ?_
    refine xP.pick (lv' := []) [] rfl ?_
    exact uX6_isSimple_13 hq
  · replace hq := hq.2 c2
    refine x_iconst (v := 1) dX6_isSimple_8 (by decide) ?_
    refine x_goto (tgt := 13) dX6_isSimple_9 (by decide) ?_
    refine xP.pick (lv' := []) [] rfl ?_
    exact uX6_isSimple_13 hq
theorem rX6_isSimple {G : xG} {fr lo : Nat} {x0 : Nat} {h : xH} {Q : Outcome → xH → Prop} (hq : bX6_isSimple G fr lo x0 h Q) : xR G YX6_isSimple fr lo [rv x0] h Q := by
  show xP _ _ _ _ _ (lv_args 0 _) _ _ _
  rw [show lv_args 0 [rv x0] = [(0, rv x0)] from (xla1 (rv_cat _) xla0)]
  exact uX6_isSimple hq
set_option maxRecDepth 100000 in
theorem dX6_setOf_0 : decode cX6_setOf 0 = .ok (.aload_n 0, 1) := by decide +kernel
set_option maxRecDepth 100000 in
theorem dX6_setOf_1 : decode cX6_setOf 1 = .ok (.getfield 67, 3) := by decide +kernel
set_option maxRecDepth 100000 in
theorem dX6_setOf_4 : decode cX6_setOf 4 = .ok (.ifnonnull 20, 3) := by decide +kernel
set_option maxRecDepth 100000 in
theorem dX6_setOf_7 : decode cX6_setOf 7 = .ok (.aload_n 0, 1) := by decide +kernel
set_option maxRecDepth 100000 in
theorem dX6_setOf_8 : decode cX6_setOf 8 = .ok (.new 10, 3) := by decide +kernel
set_option maxRecDepth 100000 in
theorem dX6_setOf_11 : decode cX6_setOf 11 = .ok (.dup, 1) := by decide +kernel
set_option maxRecDepth 100000 in
theorem dX6_setOf_12 : decode cX6_setOf 12 = .ok (.bipush 8, 2) := by decide +kernel
set_option maxRecDepth 100000 in
theorem dX6_setOf_14 : decode cX6_setOf 14 = .ok (.invokespecial 70, 3) := by decide +kernel
set_option maxRecDepth 100000 in
theorem dX6_setOf_17 : decode cX6_setOf 17 = .ok (.aload_n 0, 1) := by decide +kernel
set_option maxRecDepth 100000 in
theorem dX6_setOf_18 : decode cX6_setOf 18 = .ok (.invokevirtual 71, 3) := by decide +kernel
set_option maxRecDepth 100000 in
theorem dX6_setOf_21 : decode cX6_setOf 21 = .ok (.putfield 67, 3) := by decide +kernel
set_option maxRecDepth 100000 in
theorem dX6_setOf_24 : decode cX6_setOf 24 = .ok (.aload_n 0, 1) := by decide +kernel
set_option maxRecDepth 100000 in
theorem dX6_setOf_25 : decode cX6_setOf 25 = .ok (.getfield 67, 3) := by decide +kernel
set_option maxRecDepth 100000 in
theorem dX6_setOf_28 : decode cX6_setOf 28 = .ok (.areturn, 1) := by decide +kernel
set_option maxRecDepth 100000 in
def bX6_setOf_24 (G : xG) (fr lo : Nat) (x0 : Nat) (h : xH) (Q : Outcome → xH → Prop) : Prop := tg h x0 = 7 ∧ Q (.returned (some (rv (fR h x0 1540)))) h
set_option maxRecDepth 100000 in
theorem uX6_setOf_24 {G : xG} {fr lo : Nat} {x0 : Nat} {h : xH} {Q : Outcome → xH → Prop} (hq : bX6_setOf_24 G fr lo x0 h Q) : xP G YX6_setOf fr lo 24 [(0, rv x0)] [] h Q := by
  unfold bX6_setOf_24 at hq
  refine x_aload_n 0 dX6_setOf_24 rfl ?_
  obtain ⟨g1, hq⟩ := hq
  refine x_get (v := rv (fR h x0 1540)) fdX6_67 dX6_setOf_25 g1 rfl ?_
  exact x_aret rfl xty_O dX6_setOf_28 hq
set_option maxRecDepth 100000 in
def bX6_setOf (G : xG) (fr lo : Nat) (x0 : Nat) (h : xH) (Q : Outcome → xH → Prop) : Prop := tg h x0 = 7 ∧ ((¬ (fR h x0 1540) = 0 → bX6_setOf_24 G fr lo x0 h Q) ∧ ((fR h x0 1540) = 0 → nx h + 1 ≤ xGN G ∧ us h + 9 ≤ xGU G ∧ (∀ (a5 : Nat) (h6 : xH), a5 = nx h + 1 → h6 = nO h 7 9 → xfresh h a5 → 1 ≤ fr ∧ 15 ≤ lo ∧ xRv G YX6_init (fr - 1) (lo - 15) [rv a5, .int 8] h6 (fun h13 => xext h6 h13 → 1 ≤ fr ∧ 14 ≤ lo ∧ xRr G YX6_of (fr - 1) (lo - 14) [rv a5, rv x0] h13 (fun x20 h19 => xext h13 h19 → (∀ h25 : xH, h25 = sR h19 x0 1540 x20 → bX6_setOf_24 G fr lo x0 h25 Q)) (fun r h2 => Q (.threw r) h2)) (fun r h2 => Q (.threw r) h2))))
set_option maxRecDepth 100000 in
theorem uX6_setOf {G : xG} {fr lo : Nat} {x0 : Nat} {h : xH} {Q : Outcome → xH → Prop} (hq : bX6_setOf G fr lo x0 h Q) : xP G YX6_setOf fr lo 0 [(0, rv x0)] [] h Q := by
  unfold bX6_setOf at hq
  refine x_aload_n 0 dX6_setOf_0 rfl ?_
  obtain ⟨g1, hq⟩ := hq
  refine x_get (v := rv (fR h x0 1540)) fdX6_67 dX6_setOf_1 g1 rfl ?_
  refine x_ifnonnull (tgt := 24) dX6_setOf_4 (by decide) (fun c2 => ?_) (fun c2 => ?_)
  · replace hq := hq.1 c2
    exact uX6_setOf_24 hq
  · replace hq := hq.2 c2
    refine x_aload_n 0 dX6_setOf_7 rfl ?_
    obtain ⟨g3, g4, hq⟩ := hq
    obtain ⟨a5, e7⟩ : ∃ y, y = nx h + 1 := ⟨_, rfl⟩
    obtain ⟨h6, e8⟩ : ∃ y, y = nO h 7 9 := ⟨_, rfl⟩
    refine x_new' cdX6_10 dX6_setOf_8 g3 g4 e7 e8 (fun f9 => ?_)
    replace hq := hq a5 h6 e7 e8 f9
    have t10 : tg h6 a5 = 7 := by rw [e8, e7]; exact tg_nO
    refine x_dup dX6_setOf_11 (rv_cat _) ?_
    refine x_bipush (v := 8) dX6_setOf_12 (by decide) ?_
    obtain ⟨g11, g12, hq⟩ := hq
    refine x_callI (Yc := YX6_init) (as := [.int 8]) (st := [rv a5, rv x0]) q2547 miX6_init (by rw [t10]; decide) rfl dX6_setOf_14 (xle (xal1 (rv_cat _) (xal1 rfl xal0)) (by decide)) (xfr g11) (xlo (xsw1 (rv_cat _) (xsw1 (rv_cat _) xsw0)) (by decide) g12) (xKv hq (fun h13 hq e15 => ?_) (fun _ _ q _ => q))
    replace hq := hq e15
    refine x_aload_n 0 dX6_setOf_17 rfl ?_
    have t16 : tg h13 a5 = 7 := e15.tg t10 (by decide)
    obtain ⟨g17, g18, hq⟩ := hq
    refine x_callV (Yc := YX6_of) (as := [rv x0]) (st := [rv x0]) q2548 mvX6_of t16 rfl dX6_setOf_18 (xle (xal1 (rv_cat _) (xal1 (rv_cat _) xal0)) (by decide)) (xfr g17) (xlo (xsw1 (rv_cat _) xsw0) (by decide) g18) (xKr hq (fun x20 h19 hq e21 => ?_) (fun _ _ q _ => q))
    replace hq := hq e21
    have t22 : tg h6 x0 = 7 := by rw [e8]; exact tg_nO_ne e7 f9 g1 (by decide)
    have t23 : tg h13 x0 = 7 := e15.tg t22 (by decide)
    have t24 : tg h19 x0 = 7 := e21.tg t23 (by decide)
    obtain ⟨h25, e26⟩ : ∃ y, y = sR h19 x0 1540 x20 := ⟨_, rfl⟩
    replace hq := hq h25 e26
    refine x_putR fdX6_67 xty_O dX6_setOf_21 t24 (Or.inl (by rw [t24]; rfl)) rfl e26 ?_
    exact uX6_setOf_24 hq
theorem rX6_setOf {G : xG} {fr lo : Nat} {x0 : Nat} {h : xH} {Q : Outcome → xH → Prop} (hq : bX6_setOf G fr lo x0 h Q) : xR G YX6_setOf fr lo [rv x0] h Q := by
  show xP _ _ _ _ _ (lv_args 0 _) _ _ _
  rw [show lv_args 0 [rv x0] = [(0, rv x0)] from (xla1 (rv_cat _) xla0)]
  exact uX6_setOf hq
set_option maxRecDepth 100000 in
theorem dX6_takes_0 : decode cX6_takes 0 = .ok (.aload_n 0, 1) := by decide +kernel
set_option maxRecDepth 100000 in
theorem dX6_takes_1 : decode cX6_takes 1 = .ok (.getfield 24, 3) := by decide +kernel
set_option maxRecDepth 100000 in
theorem dX6_takes_4 : decode cX6_takes 4 = .ok (.bipush 10, 2) := by decide +kernel
set_option maxRecDepth 100000 in
theorem dX6_takes_6 : decode cX6_takes 6 = .ok (.if_icmp .eq 42, 3) := by decide +kernel
set_option maxRecDepth 100000 in
theorem dX6_takes_9 : decode cX6_takes 9 = .ok (.aload_n 0, 1) := by decide +kernel
set_option maxRecDepth 100000 in
theorem dX6_takes_10 : decode cX6_takes 10 = .ok (.aload_n 1, 1) := by decide +kernel
set_option maxRecDepth 100000 in
theorem dX6_takes_11 : decode cX6_takes 11 = .ok (.invokevirtual 88, 3) := by decide +kernel
set_option maxRecDepth 100000 in
theorem dX6_takes_14 : decode cX6_takes 14 = .ok (.ifCond .eq 12, 3) := by decide +kernel
set_option maxRecDepth 100000 in
theorem dX6_takes_17 : decode cX6_takes 17 = .ok (.aload_n 1, 1) := by decide +kernel
set_option maxRecDepth 100000 in
theorem dX6_takes_18 : decode cX6_takes 18 = .ok (.getfield 24, 3) := by decide +kernel
set_option maxRecDepth 100000 in
theorem dX6_takes_21 : decode cX6_takes 21 = .ok (.bipush 10, 2) := by decide +kernel
set_option maxRecDepth 100000 in
theorem dX6_takes_23 : decode cX6_takes 23 = .ok (.if_icmp .ne 21, 3) := by decide +kernel
set_option maxRecDepth 100000 in
theorem dX6_takes_26 : decode cX6_takes 26 = .ok (.aload_n 0, 1) := by decide +kernel
set_option maxRecDepth 100000 in
theorem dX6_takes_27 : decode cX6_takes 27 = .ok (.getfield 24, 3) := by decide +kernel
set_option maxRecDepth 100000 in
theorem dX6_takes_30 : decode cX6_takes 30 = .ok (.iconst 1, 1) := by decide +kernel
set_option maxRecDepth 100000 in
theorem dX6_takes_31 : decode cX6_takes 31 = .ok (.if_icmp .ne 17, 3) := by decide +kernel
set_option maxRecDepth 100000 in
theorem dX6_takes_34 : decode cX6_takes 34 = .ok (.aload_n 1, 1) := by decide +kernel
set_option maxRecDepth 100000 in
theorem dX6_takes_35 : decode cX6_takes 35 = .ok (.invokevirtual 40, 3) := by decide +kernel
set_option maxRecDepth 100000 in
theorem dX6_takes_38 : decode cX6_takes 38 = .ok (.getfield 24, 3) := by decide +kernel
set_option maxRecDepth 100000 in
theorem dX6_takes_41 : decode cX6_takes 41 = .ok (.ifCond .ne 7, 3) := by decide +kernel
set_option maxRecDepth 100000 in
theorem dX6_takes_44 : decode cX6_takes 44 = .ok (.iconst 1, 1) := by decide +kernel
set_option maxRecDepth 100000 in
theorem dX6_takes_45 : decode cX6_takes 45 = .ok (.goto 4, 3) := by decide +kernel
set_option maxRecDepth 100000 in
theorem dX6_takes_48 : decode cX6_takes 48 = .ok (.iconst 0, 1) := by decide +kernel
set_option maxRecDepth 100000 in
theorem dX6_takes_49 : decode cX6_takes 49 = .ok (.ireturn, 1) := by decide +kernel
set_option maxRecDepth 100000 in
def bX6_takes_49 (G : xG) (fr lo : Nat) (s0 : Int32) (h : xH) (Q : Outcome → xH → Prop) : Prop := xbz s0 ∧ Q (.returned (some (.int s0))) h
set_option maxRecDepth 100000 in
theorem uX6_takes_49 {G : xG} {fr lo : Nat} {s0 : Int32} {h : xH} {Q : Outcome → xH → Prop} (hq : bX6_takes_49 G fr lo s0 h Q) : xP G YX6_takes fr lo 49 [] [.int s0] h Q := by
  unfold bX6_takes_49 at hq
  obtain ⟨g1, hq⟩ := hq
  exact x_iret rfl (xnZ g1) dX6_takes_49 hq
set_option maxRecDepth 100000 in
def bX6_takes_48 (G : xG) (fr lo : Nat) (h : xH) (Q : Outcome → xH → Prop) : Prop := bX6_takes_49 G fr lo 0 h Q
set_option maxRecDepth 100000 in
theorem uX6_takes_48 {G : xG} {fr lo : Nat} {h : xH} {Q : Outcome → xH → Prop} (hq : bX6_takes_48 G fr lo h Q) : xP G YX6_takes fr lo 48 [] [] h Q := by
  unfold bX6_takes_48 at hq
  refine x_iconst (v := 0) dX6_takes_48 (by decide) ?_
  exact uX6_takes_49 hq
set_option maxRecDepth 100000 in
def bX6_takes_44 (G : xG) (fr lo : Nat) (h : xH) (Q : Outcome → xH → Prop) : Prop := bX6_takes_49 G fr lo 1 h Q
set_option maxRecDepth 100000 in
theorem uX6_takes_44 {G : xG} {fr lo : Nat} {h : xH} {Q : Outcome → xH → Prop} (hq : bX6_takes_44 G fr lo h Q) : xP G YX6_takes fr lo 44 [] [] h Q := by
  unfold bX6_takes_44 at hq
  refine x_iconst (v := 1) dX6_takes_44 (by decide) ?_
  refine x_goto (tgt := 49) dX6_takes_45 (by decide) ?_
  exact uX6_takes_49 hq
set_option maxRecDepth 100000 in
def bX6_takes_26 (G : xG) (fr lo : Nat) (x0 : Nat) (x1 : Nat) (h : xH) (Q : Outcome → xH → Prop) : Prop := tg h x0 = 7 ∧ ((¬ (fI h x0 1536) = 1 → bX6_takes_48 G fr lo h Q) ∧ ((fI h x0 1536) = 1 → tg h x1 = 7 ∧ 1 ≤ fr ∧ 12 ≤ lo ∧ xRr G YX6_own (fr - 1) (lo - 12) [rv x1] h (fun x7 h6 => xext h h6 → tg h6 x7 = 7 ∧ ((¬ (fI h6 x7 1536) = 0 → bX6_takes_48 G fr lo h6 Q) ∧ ((fI h6 x7 1536) = 0 → bX6_takes_44 G fr lo h6 Q))) (fun r h2 => Q (.threw r) h2)))
set_option maxRecDepth 100000 in
theorem uX6_takes_26 {G : xG} {fr lo : Nat} {x0 : Nat} {x1 : Nat} {h : xH} {Q : Outcome → xH → Prop} (hq : bX6_takes_26 G fr lo x0 x1 h Q) : xP G YX6_takes fr lo 26 [(0, rv x0), (1, rv x1)] [] h Q := by
  unfold bX6_takes_26 at hq
  refine x_aload_n 0 dX6_takes_26 rfl ?_
  obtain ⟨g1, hq⟩ := hq
  refine x_get (v := .int (fI h x0 1536)) fdX6_24 dX6_takes_27 g1 rfl ?_
  refine x_iconst (v := 1) dX6_takes_30 (by decide) ?_
  refine x_icmp_ne (tgt := 48) dX6_takes_31 (by decide) (fun c2 => ?_) (fun c2 => ?_)
  · replace hq := hq.1 c2
    refine xP.pick (lv' := []) [] rfl ?_
    exact uX6_takes_48 hq
  · replace hq := hq.2 c2
    refine x_aload_n 1 dX6_takes_34 rfl ?_
    obtain ⟨g3, hq⟩ := hq
    obtain ⟨g4, g5, hq⟩ := hq
    refine x_callV (Yc := YX6_own) (as := []) (st := []) q2262 mvX6_own g3 rfl dX6_takes_35 (xle (xal1 (rv_cat _) xal0) (by decide)) (xfr g4) (xlo xsw0 (by decide) g5) (xKr hq (fun x7 h6 hq e8 => ?_) (fun _ _ q _ => q))
    replace hq := hq e8
    obtain ⟨g9, hq⟩ := hq
    refine x_get (v := .int (fI h6 x7 1536)) fdX6_24 dX6_takes_38 g9 rfl ?_
    refine x_if_ne (tgt := 48) dX6_takes_41 (by decide) (fun c10 => ?_) (fun c10 => ?_)
    · replace hq := hq.1 c10
      refine xP.pick (lv' := []) [] rfl ?_
      exact uX6_takes_48 hq
    · replace hq := hq.2 c10
      refine xP.pick (lv' := []) [] rfl ?_
      exact uX6_takes_44 hq
set_option maxRecDepth 100000 in
def bX6_takes (G : xG) (fr lo : Nat) (x0 : Nat) (x1 : Nat) (h : xH) (Q : Outcome → xH → Prop) : Prop := tg h x0 = 7 ∧ (((fI h x0 1536) = 10 → bX6_takes_48 G fr lo h Q) ∧ (¬ (fI h x0 1536) = 10 → 1 ≤ fr ∧ 13 ≤ lo ∧ xRi G YX6_isLike (fr - 1) (lo - 13) [rv x0, rv x1] h (fun x6 h5 => xext h h5 → ((x6 = 0 → bX6_takes_26 G fr lo x0 x1 h5 Q) ∧ (¬ x6 = 0 → tg h5 x1 = 7 ∧ ((¬ (fI h5 x1 1536) = 10 → bX6_takes_44 G fr lo h5 Q) ∧ ((fI h5 x1 1536) = 10 → bX6_takes_26 G fr lo x0 x1 h5 Q))))) (fun r h2 => Q (.threw r) h2)))
set_option maxRecDepth 100000 in
theorem uX6_takes {G : xG} {fr lo : Nat} {x0 : Nat} {x1 : Nat} {h : xH} {Q : Outcome → xH → Prop} (hq : bX6_takes G fr lo x0 x1 h Q) : xP G YX6_takes fr lo 0 [(0, rv x0), (1, rv x1)] [] h Q := by
  unfold bX6_takes at hq
  refine x_aload_n 0 dX6_takes_0 rfl ?_
  obtain ⟨g1, hq⟩ := hq
  refine x_get (v := .int (fI h x0 1536)) fdX6_24 dX6_takes_1 g1 rfl ?_
  refine x_bipush (v := 10) dX6_takes_4 (by decide) ?_
  refine x_icmp_eq (tgt := 48) dX6_takes_6 (by decide) (fun c2 => ?_) (fun c2 => ?_)
  · replace hq := hq.1 c2
    refine xP.pick (lv' := []) [] rfl ?_
    exact uX6_takes_48 hq
  · replace hq := hq.2 c2
    refine x_aload_n 0 dX6_takes_9 rfl ?_
    refine x_aload_n 1 dX6_takes_10 rfl ?_
    obtain ⟨g3, g4, hq⟩ := hq
    refine x_callV (Yc := YX6_isLike) (as := [rv x1]) (st := []) q2569 mvX6_isLike g1 rfl dX6_takes_11 (xle (xal1 (rv_cat _) (xal1 (rv_cat _) xal0)) (by decide)) (xfr g3) (xlo xsw0 (by decide) g4) (xKi hq (fun x6 h5 hq e7 => ?_) (fun _ _ q _ => q))
    replace hq := hq e7
    refine x_if_eq (tgt := 26) dX6_takes_14 (by decide) (fun c8 => ?_) (fun c8 => ?_)
    · replace hq := hq.1 c8
      exact uX6_takes_26 hq
    · replace hq := hq.2 c8
      refine x_aload_n 1 dX6_takes_17 rfl ?_
      obtain ⟨g9, hq⟩ := hq
      refine x_get (v := .int (fI h5 x1 1536)) fdX6_24 dX6_takes_18 g9 rfl ?_
      refine x_bipush (v := 10) dX6_takes_21 (by decide) ?_
      refine x_icmp_ne (tgt := 44) dX6_takes_23 (by decide) (fun c10 => ?_) (fun c10 => ?_)
      · replace hq := hq.1 c10
        refine xP.pick (lv' := []) [] rfl ?_
        exact uX6_takes_44 hq
      · replace hq := hq.2 c10
        exact uX6_takes_26 hq
theorem rX6_takes {G : xG} {fr lo : Nat} {x0 : Nat} {x1 : Nat} {h : xH} {Q : Outcome → xH → Prop} (hq : bX6_takes G fr lo x0 x1 h Q) : xR G YX6_takes fr lo [rv x0, rv x1] h Q := by
  show xP _ _ _ _ _ (lv_args 0 _) _ _ _
  rw [show lv_args 0 [rv x0, rv x1] = [(0, rv x0), (1, rv x1)] from (xla1 (rv_cat _) (xla1 (rv_cat _) xla0))]
  exact uX6_takes hq
set_option maxRecDepth 100000 in
theorem dX6_isLike_0 : decode cX6_isLike 0 = .ok (.aload_n 0, 1) := by decide +kernel
set_option maxRecDepth 100000 in
theorem dX6_isLike_1 : decode cX6_isLike 1 = .ok (.aload_n 1, 1) := by decide +kernel
set_option maxRecDepth 100000 in
theorem dX6_isLike_2 : decode cX6_isLike 2 = .ok (.if_acmp .eq 35, 3) := by decide +kernel
set_option maxRecDepth 100000 in
theorem dX6_isLike_5 : decode cX6_isLike 5 = .ok (.aload_n 0, 1) := by decide +kernel
set_option maxRecDepth 100000 in
theorem dX6_isLike_6 : decode cX6_isLike 6 = .ok (.invokevirtual 75, 3) := by decide +kernel
set_option maxRecDepth 100000 in
theorem dX6_isLike_9 : decode cX6_isLike 9 = .ok (.ifCond .eq 30, 3) := by decide +kernel
set_option maxRecDepth 100000 in
theorem dX6_isLike_12 : decode cX6_isLike 12 = .ok (.aload_n 1, 1) := by decide +kernel
set_option maxRecDepth 100000 in
theorem dX6_isLike_13 : decode cX6_isLike 13 = .ok (.invokevirtual 75, 3) := by decide +kernel
set_option maxRecDepth 100000 in
theorem dX6_isLike_16 : decode cX6_isLike 16 = .ok (.ifCond .eq 23, 3) := by decide +kernel
set_option maxRecDepth 100000 in
theorem dX6_isLike_19 : decode cX6_isLike 19 = .ok (.aload_n 0, 1) := by decide +kernel
set_option maxRecDepth 100000 in
theorem dX6_isLike_20 : decode cX6_isLike 20 = .ok (.getfield 24, 3) := by decide +kernel
set_option maxRecDepth 100000 in
theorem dX6_isLike_23 : decode cX6_isLike 23 = .ok (.bipush 11, 2) := by decide +kernel
set_option maxRecDepth 100000 in
theorem dX6_isLike_25 : decode cX6_isLike 25 = .ok (.if_icmp .eq 12, 3) := by decide +kernel
set_option maxRecDepth 100000 in
theorem dX6_isLike_28 : decode cX6_isLike 28 = .ok (.aload_n 1, 1) := by decide +kernel
set_option maxRecDepth 100000 in
theorem dX6_isLike_29 : decode cX6_isLike 29 = .ok (.getfield 24, 3) := by decide +kernel
set_option maxRecDepth 100000 in
theorem dX6_isLike_32 : decode cX6_isLike 32 = .ok (.bipush 11, 2) := by decide +kernel
set_option maxRecDepth 100000 in
theorem dX6_isLike_34 : decode cX6_isLike 34 = .ok (.if_icmp .ne 5, 3) := by decide +kernel
set_option maxRecDepth 100000 in
theorem dX6_isLike_37 : decode cX6_isLike 37 = .ok (.iconst 1, 1) := by decide +kernel
set_option maxRecDepth 100000 in
theorem dX6_isLike_38 : decode cX6_isLike 38 = .ok (.ireturn, 1) := by decide +kernel
set_option maxRecDepth 100000 in
theorem dX6_isLike_39 : decode cX6_isLike 39 = .ok (.aload_n 0, 1) := by decide +kernel
set_option maxRecDepth 100000 in
theorem dX6_isLike_40 : decode cX6_isLike 40 = .ok (.invokevirtual 79, 3) := by decide +kernel
set_option maxRecDepth 100000 in
theorem dX6_isLike_43 : decode cX6_isLike 43 = .ok (.ifCond .eq 27, 3) := by decide +kernel
set_option maxRecDepth 100000 in
theorem dX6_isLike_46 : decode cX6_isLike 46 = .ok (.aload_n 1, 1) := by decide +kernel
set_option maxRecDepth 100000 in
theorem dX6_isLike_47 : decode cX6_isLike 47 = .ok (.invokevirtual 79, 3) := by decide +kernel
set_option maxRecDepth 100000 in
theorem dX6_isLike_50 : decode cX6_isLike 50 = .ok (.ifCond .eq 20, 3) := by decide +kernel
set_option maxRecDepth 100000 in
theorem dX6_isLike_53 : decode cX6_isLike 53 = .ok (.aload_n 0, 1) := by decide +kernel
set_option maxRecDepth 100000 in
theorem dX6_isLike_54 : decode cX6_isLike 54 = .ok (.invokevirtual 40, 3) := by decide +kernel
set_option maxRecDepth 100000 in
theorem dX6_isLike_57 : decode cX6_isLike 57 = .ok (.aload_n 1, 1) := by decide +kernel
set_option maxRecDepth 100000 in
theorem dX6_isLike_58 : decode cX6_isLike 58 = .ok (.invokevirtual 40, 3) := by decide +kernel
set_option maxRecDepth 100000 in
theorem dX6_isLike_61 : decode cX6_isLike 61 = .ok (.if_acmp .ne 7, 3) := by decide +kernel
set_option maxRecDepth 100000 in
theorem dX6_isLike_64 : decode cX6_isLike 64 = .ok (.iconst 1, 1) := by decide +kernel
set_option maxRecDepth 100000 in
theorem dX6_isLike_65 : decode cX6_isLike 65 = .ok (.goto 4, 3) := by decide +kernel
set_option maxRecDepth 100000 in
theorem dX6_isLike_68 : decode cX6_isLike 68 = .ok (.iconst 0, 1) := by decide +kernel
set_option maxRecDepth 100000 in
theorem dX6_isLike_69 : decode cX6_isLike 69 = .ok (.ireturn, 1) := by decide +kernel
set_option maxRecDepth 100000 in
theorem dX6_isLike_70 : decode cX6_isLike 70 = .ok (.aload_n 0, 1) := by decide +kernel
set_option maxRecDepth 100000 in
theorem dX6_isLike_71 : decode cX6_isLike 71 = .ok (.invokevirtual 82, 3) := by decide +kernel
set_option maxRecDepth 100000 in
theorem dX6_isLike_74 : decode cX6_isLike 74 = .ok (.ifCond .eq 51, 3) := by decide +kernel
set_option maxRecDepth 100000 in
theorem dX6_isLike_77 : decode cX6_isLike 77 = .ok (.aload_n 1, 1) := by decide +kernel
set_option maxRecDepth 100000 in
theorem dX6_isLike_78 : decode cX6_isLike 78 = .ok (.invokevirtual 82, 3) := by decide +kernel
set_option maxRecDepth 100000 in
theorem dX6_isLike_81 : decode cX6_isLike 81 = .ok (.ifCond .eq 44, 3) := by decide +kernel
set_option maxRecDepth 100000 in
theorem dX6_isLike_84 : decode cX6_isLike 84 = .ok (.aload_n 0, 1) := by decide +kernel
set_option maxRecDepth 100000 in
theorem dX6_isLike_85 : decode cX6_isLike 85 = .ok (.getfield 24, 3) := by decide +kernel
set_option maxRecDepth 100000 in
theorem dX6_isLike_88 : decode cX6_isLike 88 = .ok (.bipush 12, 2) := by decide +kernel
set_option maxRecDepth 100000 in
theorem dX6_isLike_90 : decode cX6_isLike 90 = .ok (.if_icmp .eq 29, 3) := by decide +kernel
set_option maxRecDepth 100000 in
theorem dX6_isLike_93 : decode cX6_isLike 93 = .ok (.aload_n 1, 1) := by decide +kernel
set_option maxRecDepth 100000 in
theorem dX6_isLike_94 : decode cX6_isLike 94 = .ok (.getfield 24, 3) := by decide +kernel
set_option maxRecDepth 100000 in
theorem dX6_isLike_97 : decode cX6_isLike 97 = .ok (.bipush 12, 2) := by decide +kernel
set_option maxRecDepth 100000 in
theorem dX6_isLike_99 : decode cX6_isLike 99 = .ok (.if_icmp .eq 20, 3) := by decide +kernel
set_option maxRecDepth 100000 in
theorem dX6_isLike_102 : decode cX6_isLike 102 = .ok (.aload_n 0, 1) := by decide +kernel
set_option maxRecDepth 100000 in
theorem dX6_isLike_103 : decode cX6_isLike 103 = .ok (.getfield 33, 3) := by decide +kernel
set_option maxRecDepth 100000 in
theorem dX6_isLike_106 : decode cX6_isLike 106 = .ok (.invokevirtual 40, 3) := by decide +kernel
set_option maxRecDepth 100000 in
theorem dX6_isLike_109 : decode cX6_isLike 109 = .ok (.aload_n 1, 1) := by decide +kernel
set_option maxRecDepth 100000 in
theorem dX6_isLike_110 : decode cX6_isLike 110 = .ok (.getfield 33, 3) := by decide +kernel
set_option maxRecDepth 100000 in
theorem dX6_isLike_113 : decode cX6_isLike 113 = .ok (.invokevirtual 40, 3) := by decide +kernel
set_option maxRecDepth 100000 in
theorem dX6_isLike_116 : decode cX6_isLike 116 = .ok (.if_acmp .ne 7, 3) := by decide +kernel
set_option maxRecDepth 100000 in
theorem dX6_isLike_119 : decode cX6_isLike 119 = .ok (.iconst 1, 1) := by decide +kernel
set_option maxRecDepth 100000 in
theorem dX6_isLike_120 : decode cX6_isLike 120 = .ok (.goto 4, 3) := by decide +kernel
set_option maxRecDepth 100000 in
theorem dX6_isLike_123 : decode cX6_isLike 123 = .ok (.iconst 0, 1) := by decide +kernel
set_option maxRecDepth 100000 in
theorem dX6_isLike_124 : decode cX6_isLike 124 = .ok (.ireturn, 1) := by decide +kernel
set_option maxRecDepth 100000 in
theorem dX6_isLike_125 : decode cX6_isLike 125 = .ok (.aload_n 0, 1) := by decide +kernel
set_option maxRecDepth 100000 in
theorem dX6_isLike_126 : decode cX6_isLike 126 = .ok (.invokevirtual 85, 3) := by decide +kernel
set_option maxRecDepth 100000 in
theorem dX6_isLike_129 : decode cX6_isLike 129 = .ok (.ifCond .le 18, 3) := by decide +kernel
set_option maxRecDepth 100000 in
theorem dX6_isLike_132 : decode cX6_isLike 132 = .ok (.aload_n 0, 1) := by decide +kernel
set_option maxRecDepth 100000 in
theorem dX6_isLike_133 : decode cX6_isLike 133 = .ok (.invokevirtual 85, 3) := by decide +kernel
set_option maxRecDepth 100000 in
theorem dX6_isLike_136 : decode cX6_isLike 136 = .ok (.aload_n 1, 1) := by decide +kernel
set_option maxRecDepth 100000 in
theorem dX6_isLike_137 : decode cX6_isLike 137 = .ok (.invokevirtual 85, 3) := by decide +kernel
set_option maxRecDepth 100000 in
theorem dX6_isLike_140 : decode cX6_isLike 140 = .ok (.if_icmp .ne 7, 3) := by decide +kernel
set_option maxRecDepth 100000 in
theorem dX6_isLike_143 : decode cX6_isLike 143 = .ok (.iconst 1, 1) := by decide +kernel
set_option maxRecDepth 100000 in
theorem dX6_isLike_144 : decode cX6_isLike 144 = .ok (.goto 4, 3) := by decide +kernel
set_option maxRecDepth 100000 in
theorem dX6_isLike_147 : decode cX6_isLike 147 = .ok (.iconst 0, 1) := by decide +kernel
set_option maxRecDepth 100000 in
theorem dX6_isLike_148 : decode cX6_isLike 148 = .ok (.ireturn, 1) := by decide +kernel
set_option maxRecDepth 100000 in
def bX6_isLike_148 (G : xG) (fr lo : Nat) (s0 : Int32) (h : xH) (Q : Outcome → xH → Prop) : Prop := xbz s0 ∧ Q (.returned (some (.int s0))) h
set_option maxRecDepth 100000 in
theorem uX6_isLike_148 {G : xG} {fr lo : Nat} {s0 : Int32} {h : xH} {Q : Outcome → xH → Prop} (hq : bX6_isLike_148 G fr lo s0 h Q) : xP G YX6_isLike fr lo 148 [] [.int s0] h Q := by
  unfold bX6_isLike_148 at hq
  obtain ⟨g1, hq⟩ := hq
  exact x_iret rfl (xnZ g1) dX6_isLike_148 hq
set_option maxRecDepth 100000 in
def bX6_isLike_147 (G : xG) (fr lo : Nat) (h : xH) (Q : Outcome → xH → Prop) : Prop := bX6_isLike_148 G fr lo 0 h Q
set_option maxRecDepth 100000 in
theorem uX6_isLike_147 {G : xG} {fr lo : Nat} {h : xH} {Q : Outcome → xH → Prop} (hq : bX6_isLike_147 G fr lo h Q) : xP G YX6_isLike fr lo 147 [] [] h Q := by
  unfold bX6_isLike_147 at hq
  refine x_iconst (v := 0) dX6_isLike_147 (by decide) ?_
  exact uX6_isLike_148 hq
set_option maxRecDepth 100000 in
def bX6_isLike_125 (G : xG) (fr lo : Nat) (x0 : Nat) (x1 : Nat) (h : xH) (Q : Outcome → xH → Prop) : Prop := tg h x0 = 7 ∧ 1 ≤ fr ∧ 13 ≤ lo ∧ xRi G YX6_string (fr - 1) (lo - 13) [rv x0] h (fun x5 h4 => xext h h4 → ((x5 ≤ 0 → bX6_isLike_147 G fr lo h4 Q) ∧ (¬ x5 ≤ 0 → 1 ≤ fr ∧ 13 ≤ lo ∧ xRi G YX6_string (fr - 1) (lo - 13) [rv x0] h4 (fun x12 h11 => xext h4 h11 → tg h11 x1 = 7 ∧ 1 ≤ fr ∧ 14 ≤ lo ∧ xRi G YX6_string (fr - 1) (lo - 14) [rv x1] h11 (fun x18 h17 => xext h11 h17 → ((¬ x12 = x18 → bX6_isLike_147 G fr lo h17 Q) ∧ (x12 = x18 → bX6_isLike_148 G fr lo 1 h17 Q))) (fun r h2 => Q (.threw r) h2)) (fun r h2 => Q (.threw r) h2)))) (fun r h2 => Q (.threw r) h2)
set_option maxRecDepth 100000 in
theorem uX6_isLike_125 {G : xG} {fr lo : Nat} {x0 : Nat} {x1 : Nat} {h : xH} {Q : Outcome → xH → Prop} (hq : bX6_isLike_125 G fr lo x0 x1 h Q) : xP G YX6_isLike fr lo 125 [(0, rv x0), (1, rv x1)] [] h Q := by
  unfold bX6_isLike_125 at hq
  refine x_aload_n 0 dX6_isLike_125 rfl ?_
  obtain ⟨g1, hq⟩ := hq
  obtain ⟨g2, g3, hq⟩ := hq
  refine x_callV (Yc := YX6_string) (as := []) (st := []) q2582 mvX6_string g1 rfl dX6_isLike_126 (xle (xal1 (rv_cat _) xal0) (by decide)) (xfr g2) (xlo xsw0 (by decide) g3) (xKi hq (fun x5 h4 hq e6 => ?_) (fun _ _ q _ => q))
  replace hq := hq e6
  refine x_if_le (tgt := 147) dX6_isLike_129 (by decide) (fun c7 => ?_) (fun c7 => ?_)
  · replace hq := hq.1 c7
    refine xP.pick (lv' := []) [] rfl ?_
    exact uX6_isLike_147 hq
  · replace hq := hq.2 c7
    refine x_aload_n 0 dX6_isLike_132 rfl ?_
    have t8 : tg h4 x0 = 7 := e6.tg g1 (by decide)
    obtain ⟨g9, g10, hq⟩ := hq
    refine x_callV (Yc := YX6_string) (as := []) (st := []) q2582 mvX6_string t8 rfl dX6_isLike_133 (xle (xal1 (rv_cat _) xal0) (by decide)) (xfr g9) (xlo xsw0 (by decide) g10) (xKi hq (fun x12 h11 hq e13 => ?_) (fun _ _ q _ => q))
    replace hq := hq e13
    refine x_aload_n 1 dX6_isLike_136 rfl ?_
    obtain ⟨g14, hq⟩ := hq
    obtain ⟨g15, g16, hq⟩ := hq
    refine x_callV (Yc := YX6_string) (as := []) (st := [.int x12]) q2582 mvX6_string g14 rfl dX6_isLike_137 (xle (xal1 (rv_cat _) xal0) (by decide)) (xfr g15) (xlo (xsw1 rfl xsw0) (by decide) g16) (xKi hq (fun x18 h17 hq e19 => ?_) (fun _ _ q _ => q))
    replace hq := hq e19
    refine x_icmp_ne (tgt := 147) dX6_isLike_140 (by decide) (fun c20 => ?_) (fun c20 => ?_)
    · replace hq := hq.1 c20
      refine xP.pick (lv' := []) [] rfl ?_
      exact uX6_isLike_147 hq
    · replace hq := hq.2 c20
      refine x_iconst (v := 1) dX6_isLike_143 (by decide) ?_
      refine x_goto (tgt := 148) dX6_isLike_144 (by decide) ?_
      refine xP.pick (lv' := []) [] rfl ?_
      exact uX6_isLike_148 hq
set_option maxRecDepth 100000 in
def bX6_isLike_124 (G : xG) (fr lo : Nat) (s0 : Int32) (h : xH) (Q : Outcome → xH → Prop) : Prop := xbz s0 ∧ Q (.returned (some (.int s0))) h
set_option maxRecDepth 100000 in
theorem uX6_isLike_124 {G : xG} {fr lo : Nat} {s0 : Int32} {h : xH} {Q : Outcome → xH → Prop} (hq : bX6_isLike_124 G fr lo s0 h Q) : xP G YX6_isLike fr lo 124 [] [.int s0] h Q := by
  unfold bX6_isLike_124 at hq
  obtain ⟨g1, hq⟩ := hq
  exact x_iret rfl (xnZ g1) dX6_isLike_124 hq
set_option maxRecDepth 100000 in
def bX6_isLike_119 (G : xG) (fr lo : Nat) (h : xH) (Q : Outcome → xH → Prop) : Prop := bX6_isLike_124 G fr lo 1 h Q
set_option maxRecDepth 100000 in
theorem uX6_isLike_119 {G : xG} {fr lo : Nat} {h : xH} {Q : Outcome → xH → Prop} (hq : bX6_isLike_119 G fr lo h Q) : xP G YX6_isLike fr lo 119 [] [] h Q := by
  unfold bX6_isLike_119 at hq
  refine x_iconst (v := 1) dX6_isLike_119 (by decide) ?_
  refine x_goto (tgt := 124) dX6_isLike_120 (by decide) ?_
  exact uX6_isLike_124 hq
set_option maxRecDepth 100000 in
def bX6_isLike_70 (G : xG) (fr lo : Nat) (x0 : Nat) (x1 : Nat) (h : xH) (Q : Outcome → xH → Prop) : Prop := tg h x0 = 7 ∧ 1 ≤ fr ∧ 12 ≤ lo ∧ xRi G YX6_isSet (fr - 1) (lo - 12) [rv x0] h (fun x5 h4 => xext h h4 → ((x5 = 0 → bX6_isLike_125 G fr lo x0 x1 h4 Q) ∧ (¬ x5 = 0 → tg h4 x1 = 7 ∧ 1 ≤ fr ∧ 12 ≤ lo ∧ xRi G YX6_isSet (fr - 1) (lo - 12) [rv x1] h4 (fun x12 h11 => xext h4 h11 → ((x12 = 0 → bX6_isLike_125 G fr lo x0 x1 h11 Q) ∧ (¬ x12 = 0 → (((fI h11 x0 1536) = 12 → bX6_isLike_119 G fr lo h11 Q) ∧ (¬ (fI h11 x0 1536) = 12 → (((fI h11 x1 1536) = 12 → bX6_isLike_119 G fr lo h11 Q) ∧ (¬ (fI h11 x1 1536) = 12 → tg h11 (fR h11 x0 1538) = 7 ∧ 1 ≤ fr ∧ 12 ≤ lo ∧ xRr G YX6_own (fr - 1) (lo - 12) [rv (fR h11 x0 1538)] h11 (fun x24 h23 => xext h11 h23 → tg h23 (fR h23 x1 1538) = 7 ∧ 1 ≤ fr ∧ 13 ≤ lo ∧ xRr G YX6_own (fr - 1) (lo - 13) [rv (fR h23 x1 1538)] h23 (fun x31 h30 => xext h23 h30 → ((¬ x24 = x31 → bX6_isLike_124 G fr lo 0 h30 Q) ∧ (x24 = x31 → bX6_isLike_119 G fr lo h30 Q))) (fun r h2 => Q (.threw r) h2)) (fun r h2 => Q (.threw r) h2)))))))) (fun r h2 => Q (.threw r) h2)))) (fun r h2 => Q (.threw r) h2)
set_option maxRecDepth 100000 in
theorem uX6_isLike_70 {G : xG} {fr lo : Nat} {x0 : Nat} {x1 : Nat} {h : xH} {Q : Outcome → xH → Prop} (hq : bX6_isLike_70 G fr lo x0 x1 h Q) : xP G YX6_isLike fr lo 70 [(0, rv x0), (1, rv x1)] [] h Q := by
  unfold bX6_isLike_70 at hq
  refine x_aload_n 0 dX6_isLike_70 rfl ?_
  obtain ⟨g1, hq⟩ := hq
  obtain ⟨g2, g3, hq⟩ := hq
  refine x_callV (Yc := YX6_isSet) (as := []) (st := []) q2578 mvX6_isSet g1 rfl dX6_isLike_71 (xle (xal1 (rv_cat _) xal0) (by decide)) (xfr g2) (xlo xsw0 (by decide) g3) (xKi hq (fun x5 h4 hq e6 => ?_) (fun _ _ q _ => q))
  replace hq := hq e6
  refine x_if_eq (tgt := 125) dX6_isLike_74 (by decide) (fun c7 => ?_) (fun c7 => ?_)
  · replace hq := hq.1 c7
    exact uX6_isLike_125 hq
  · replace hq := hq.2 c7
    refine x_aload_n 1 dX6_isLike_77 rfl ?_
    obtain ⟨g8, hq⟩ := hq
    obtain ⟨g9, g10, hq⟩ := hq
    refine x_callV (Yc := YX6_isSet) (as := []) (st := []) q2578 mvX6_isSet g8 rfl dX6_isLike_78 (xle (xal1 (rv_cat _) xal0) (by decide)) (xfr g9) (xlo xsw0 (by decide) g10) (xKi hq (fun x12 h11 hq e13 => ?_) (fun _ _ q _ => q))
    replace hq := hq e13
    refine x_if_eq (tgt := 125) dX6_isLike_81 (by decide) (fun c14 => ?_) (fun c14 => ?_)
    · replace hq := hq.1 c14
      exact uX6_isLike_125 hq
    · replace hq := hq.2 c14
      refine x_aload_n 0 dX6_isLike_84 rfl ?_
      have t15 : tg h4 x0 = 7 := e6.tg g1 (by decide)
      have t16 : tg h11 x0 = 7 := e13.tg t15 (by decide)
      refine x_get (v := .int (fI h11 x0 1536)) fdX6_24 dX6_isLike_85 t16 rfl ?_
      refine x_bipush (v := 12) dX6_isLike_88 (by decide) ?_
      refine x_icmp_eq (tgt := 119) dX6_isLike_90 (by decide) (fun c17 => ?_) (fun c17 => ?_)
      · replace hq := hq.1 c17
        refine xP.pick (lv' := []) [] rfl ?_
        exact uX6_isLike_119 hq
      · replace hq := hq.2 c17
        refine x_aload_n 1 dX6_isLike_93 rfl ?_
        have t18 : tg h11 x1 = 7 := e13.tg g8 (by decide)
        refine x_get (v := .int (fI h11 x1 1536)) fdX6_24 dX6_isLike_94 t18 rfl ?_
        refine x_bipush (v := 12) dX6_isLike_97 (by decide) ?_
        refine x_icmp_eq (tgt := 119) dX6_isLike_99 (by decide) (fun c19 => ?_) (fun c19 => ?_)
        · replace hq := hq.1 c19
          refine xP.pick (lv' := []) [] rfl ?_
          exact uX6_isLike_119 hq
        · replace hq := hq.2 c19
          refine x_aload_n 0 dX6_isLike_102 rfl ?_
          refine x_get (v := rv (fR h11 x0 1538)) fdX6_33 dX6_isLike_103 t16 rfl ?_
          obtain ⟨g20, hq⟩ := hq
          obtain ⟨g21, g22, hq⟩ := hq
          refine x_callV (Yc := YX6_own) (as := []) (st := []) q2262 mvX6_own g20 rfl dX6_isLike_106 (xle (xal1 (rv_cat _) xal0) (by decide)) (xfr g21) (xlo xsw0 (by decide) g22) (xKr hq (fun x24 h23 hq e25 => ?_) (fun _ _ q _ => q))
          replace hq := hq e25
          refine x_aload_n 1 dX6_isLike_109 rfl ?_
          have t26 : tg h23 x1 = 7 := e25.tg t18 (by decide)
          refine x_get (v := rv (fR h23 x1 1538)) fdX6_33 dX6_isLike_110 t26 rfl ?_
          obtain ⟨g27, hq⟩ := hq
          obtain ⟨g28, g29, hq⟩ := hq
          refine x_callV (Yc := YX6_own) (as := []) (st := [rv x24]) q2262 mvX6_own g27 rfl dX6_isLike_113 (xle (xal1 (rv_cat _) xal0) (by decide)) (xfr g28) (xlo (xsw1 (rv_cat _) xsw0) (by decide) g29) (xKr hq (fun x31 h30 hq e32 => ?_) (fun _ _ q _ => q))
          replace hq := hq e32
          refine x_acmp_ne (tgt := 123) dX6_isLike_116 (by decide) (fun c33 => ?_) (fun c33 => ?_)
          · replace hq := hq.1 c33
            refine x_iconst (v := 0) dX6_isLike_123 (by decide) ?_
            refine xP.pick (lv' := []) [] rfl ?_
            exact uX6_isLike_124 hq
          · replace hq := hq.2 c33
            refine xP.pick (lv' := []) [] rfl ?_
            exact uX6_isLike_119 hq
set_option maxRecDepth 100000 in
def bX6_isLike_69 (G : xG) (fr lo : Nat) (s0 : Int32) (h : xH) (Q : Outcome → xH → Prop) : Prop := xbz s0 ∧ Q (.returned (some (.int s0))) h
set_option maxRecDepth 100000 in
theorem uX6_isLike_69 {G : xG} {fr lo : Nat} {s0 : Int32} {h : xH} {Q : Outcome → xH → Prop} (hq : bX6_isLike_69 G fr lo s0 h Q) : xP G YX6_isLike fr lo 69 [] [.int s0] h Q := by
  unfold bX6_isLike_69 at hq
  obtain ⟨g1, hq⟩ := hq
  exact x_iret rfl (xnZ g1) dX6_isLike_69 hq
set_option maxRecDepth 100000 in
def bX6_isLike_39 (G : xG) (fr lo : Nat) (x0 : Nat) (x1 : Nat) (h : xH) (Q : Outcome → xH → Prop) : Prop := tg h x0 = 7 ∧ 1 ≤ fr ∧ 12 ≤ lo ∧ xRi G YX6_isOrdinal (fr - 1) (lo - 12) [rv x0] h (fun x5 h4 => xext h h4 → ((x5 = 0 → bX6_isLike_70 G fr lo x0 x1 h4 Q) ∧ (¬ x5 = 0 → tg h4 x1 = 7 ∧ 1 ≤ fr ∧ 12 ≤ lo ∧ xRi G YX6_isOrdinal (fr - 1) (lo - 12) [rv x1] h4 (fun x12 h11 => xext h4 h11 → ((x12 = 0 → bX6_isLike_70 G fr lo x0 x1 h11 Q) ∧ (¬ x12 = 0 → 1 ≤ fr ∧ 12 ≤ lo ∧ xRr G YX6_own (fr - 1) (lo - 12) [rv x0] h11 (fun x20 h19 => xext h11 h19 → 1 ≤ fr ∧ 13 ≤ lo ∧ xRr G YX6_own (fr - 1) (lo - 13) [rv x1] h19 (fun x27 h26 => xext h19 h26 → ((¬ x20 = x27 → bX6_isLike_69 G fr lo 0 h26 Q) ∧ (x20 = x27 → bX6_isLike_69 G fr lo 1 h26 Q))) (fun r h2 => Q (.threw r) h2)) (fun r h2 => Q (.threw r) h2)))) (fun r h2 => Q (.threw r) h2)))) (fun r h2 => Q (.threw r) h2)
set_option maxRecDepth 100000 in
theorem uX6_isLike_39 {G : xG} {fr lo : Nat} {x0 : Nat} {x1 : Nat} {h : xH} {Q : Outcome → xH → Prop} (hq : bX6_isLike_39 G fr lo x0 x1 h Q) : xP G YX6_isLike fr lo 39 [(0, rv x0), (1, rv x1)] [] h Q := by
  unfold bX6_isLike_39 at hq
  refine x_aload_n 0 dX6_isLike_39 rfl ?_
  obtain ⟨g1, hq⟩ := hq
  obtain ⟨g2, g3, hq⟩ := hq
  refine x_callV (Yc := YX6_isOrdinal) (as := []) (st := []) q2577 mvX6_isOrdinal g1 rfl dX6_isLike_40 (xle (xal1 (rv_cat _) xal0) (by decide)) (xfr g2) (xlo xsw0 (by decide) g3) (xKi hq (fun x5 h4 hq e6 => ?_) (fun _ _ q _ => q))
  replace hq := hq e6
  refine x_if_eq (tgt := 70) dX6_isLike_43 (by decide) (fun c7 => ?_) (fun c7 => ?_)
  · replace hq := hq.1 c7
    exact uX6_isLike_70 hq
  · replace hq := hq.2 c7
    refine x_aload_n 1 dX6_isLike_46 rfl ?_
    obtain ⟨g8, hq⟩ := hq
    obtain ⟨g9, g10, hq⟩ := hq
    refine x_callV (Yc := YX6_isOrdinal) (as := []) (st := []) q2577 mvX6_isOrdinal g8 rfl dX6_isLike_47 (xle (xal1 (rv_cat _) xal0) (by decide)) (xfr g9) (xlo xsw0 (by decide) g10) (xKi hq (fun x12 h11 hq e13 => ?_) (fun _ _ q _ => q))
    replace hq := hq e13
    refine x_if_eq (tgt := 70) dX6_isLike_50 (by decide) (fun c14 => ?_) (fun c14 => ?_)
    · replace hq := hq.1 c14
      exact uX6_isLike_70 hq
    · replace hq := hq.2 c14
      refine x_aload_n 0 dX6_isLike_53 rfl ?_
      have t15 : tg h4 x0 = 7 := e6.tg g1 (by decide)
      have t16 : tg h11 x0 = 7 := e13.tg t15 (by decide)
      obtain ⟨g17, g18, hq⟩ := hq
      refine x_callV (Yc := YX6_own) (as := []) (st := []) q2262 mvX6_own t16 rfl dX6_isLike_54 (xle (xal1 (rv_cat _) xal0) (by decide)) (xfr g17) (xlo xsw0 (by decide) g18) (xKr hq (fun x20 h19 hq e21 => ?_) (fun _ _ q _ => q))
      replace hq := hq e21
      refine x_aload_n 1 dX6_isLike_57 rfl ?_
      have t22 : tg h11 x1 = 7 := e13.tg g8 (by decide)
      have t23 : tg h19 x1 = 7 := e21.tg t22 (by decide)
      obtain ⟨g24, g25, hq⟩ := hq
      refine x_callV (Yc := YX6_own) (as := []) (st := [rv x20]) q2262 mvX6_own t23 rfl dX6_isLike_58 (xle (xal1 (rv_cat _) xal0) (by decide)) (xfr g24) (xlo (xsw1 (rv_cat _) xsw0) (by decide) g25) (xKr hq (fun x27 h26 hq e28 => ?_) (fun _ _ q _ => q))
      replace hq := hq e28
      refine x_acmp_ne (tgt := 68) dX6_isLike_61 (by decide) (fun c29 => ?_) (fun c29 => ?_)
      · replace hq := hq.1 c29
        refine x_iconst (v := 0) dX6_isLike_68 (by decide) ?_
        refine xP.pick (lv' := []) [] rfl ?_
        exact uX6_isLike_69 hq
      · replace hq := hq.2 c29
        refine x_iconst (v := 1) dX6_isLike_64 (by decide) ?_
        refine x_goto (tgt := 69) dX6_isLike_65 (by decide) ?_
        refine xP.pick (lv' := []) [] rfl ?_
        exact uX6_isLike_69 hq
set_option maxRecDepth 100000 in
def bX6_isLike_37 (G : xG) (fr lo : Nat) (h : xH) (Q : Outcome → xH → Prop) : Prop := Q (.returned (some (.int 1))) h
set_option maxRecDepth 100000 in
theorem uX6_isLike_37 {G : xG} {fr lo : Nat} {h : xH} {Q : Outcome → xH → Prop} (hq : bX6_isLike_37 G fr lo h Q) : xP G YX6_isLike fr lo 37 [] [] h Q := by
  unfold bX6_isLike_37 at hq
  refine x_iconst (v := 1) dX6_isLike_37 (by decide) ?_
  exact x_iret rfl rfl dX6_isLike_38 hq
set_option maxRecDepth 100000 in
def bX6_isLike (G : xG) (fr lo : Nat) (x0 : Nat) (x1 : Nat) (h : xH) (Q : Outcome → xH → Prop) : Prop := ((x0 = x1 → bX6_isLike_37 G fr lo h Q) ∧ (¬ x0 = x1 → tg h x0 = 7 ∧ 1 ≤ fr ∧ 12 ≤ lo ∧ xRi G YX6_isPointer (fr - 1) (lo - 12) [rv x0] h (fun x6 h5 => xext h h5 → ((x6 = 0 → bX6_isLike_39 G fr lo x0 x1 h5 Q) ∧ (¬ x6 = 0 → tg h5 x1 = 7 ∧ 1 ≤ fr ∧ 12 ≤ lo ∧ xRi G YX6_isPointer (fr - 1) (lo - 12) [rv x1] h5 (fun x13 h12 => xext h5 h12 → ((x13 = 0 → bX6_isLike_39 G fr lo x0 x1 h12 Q) ∧ (¬ x13 = 0 → (((fI h12 x0 1536) = 11 → bX6_isLike_37 G fr lo h12 Q) ∧ (¬ (fI h12 x0 1536) = 11 → ((¬ (fI h12 x1 1536) = 11 → bX6_isLike_39 G fr lo x0 x1 h12 Q) ∧ ((fI h12 x1 1536) = 11 → bX6_isLike_37 G fr lo h12 Q))))))) (fun r h2 => Q (.threw r) h2)))) (fun r h2 => Q (.threw r) h2)))
set_option maxRecDepth 100000 in
theorem uX6_isLike {G : xG} {fr lo : Nat} {x0 : Nat} {x1 : Nat} {h : xH} {Q : Outcome → xH → Prop} (hq : bX6_isLike G fr lo x0 x1 h Q) : xP G YX6_isLike fr lo 0 [(0, rv x0), (1, rv x1)] [] h Q := by
  unfold bX6_isLike at hq
  refine x_aload_n 0 dX6_isLike_0 rfl ?_
  refine x_aload_n 1 dX6_isLike_1 rfl ?_
  refine x_acmp_eq (tgt := 37) dX6_isLike_2 (by decide) (fun c1 => ?_) (fun c1 => ?_)
  · replace hq := hq.1 c1
    refine xP.pick (lv' := []) [] rfl ?_
    exact uX6_isLike_37 hq
  · replace hq := hq.2 c1
    refine x_aload_n 0 dX6_isLike_5 rfl ?_
    obtain ⟨g2, hq⟩ := hq
    obtain ⟨g3, g4, hq⟩ := hq
    refine x_callV (Yc := YX6_isPointer) (as := []) (st := []) q2573 mvX6_isPointer g2 rfl dX6_isLike_6 (xle (xal1 (rv_cat _) xal0) (by decide)) (xfr g3) (xlo xsw0 (by decide) g4) (xKi hq (fun x6 h5 hq e7 => ?_) (fun _ _ q _ => q))
    replace hq := hq e7
    refine x_if_eq (tgt := 39) dX6_isLike_9 (by decide) (fun c8 => ?_) (fun c8 => ?_)
    · replace hq := hq.1 c8
      exact uX6_isLike_39 hq
    · replace hq := hq.2 c8
      refine x_aload_n 1 dX6_isLike_12 rfl ?_
      obtain ⟨g9, hq⟩ := hq
      obtain ⟨g10, g11, hq⟩ := hq
      refine x_callV (Yc := YX6_isPointer) (as := []) (st := []) q2573 mvX6_isPointer g9 rfl dX6_isLike_13 (xle (xal1 (rv_cat _) xal0) (by decide)) (xfr g10) (xlo xsw0 (by decide) g11) (xKi hq (fun x13 h12 hq e14 => ?_) (fun _ _ q _ => q))
      replace hq := hq e14
      refine x_if_eq (tgt := 39) dX6_isLike_16 (by decide) (fun c15 => ?_) (fun c15 => ?_)
      · replace hq := hq.1 c15
        exact uX6_isLike_39 hq
      · replace hq := hq.2 c15
        refine x_aload_n 0 dX6_isLike_19 rfl ?_
        have t16 : tg h5 x0 = 7 := e7.tg g2 (by decide)
        have t17 : tg h12 x0 = 7 := e14.tg t16 (by decide)
        refine x_get (v := .int (fI h12 x0 1536)) fdX6_24 dX6_isLike_20 t17 rfl ?_
        refine x_bipush (v := 11) dX6_isLike_23 (by decide) ?_
        refine x_icmp_eq (tgt := 37) dX6_isLike_25 (by decide) (fun c18 => ?_) (fun c18 => ?_)
        · replace hq := hq.1 c18
          refine xP.pick (lv' := []) [] rfl ?_
          exact uX6_isLike_37 hq
        · replace hq := hq.2 c18
          refine x_aload_n 1 dX6_isLike_28 rfl ?_
          have t19 : tg h12 x1 = 7 := e14.tg g9 (by decide)
          refine x_get (v := .int (fI h12 x1 1536)) fdX6_24 dX6_isLike_29 t19 rfl ?_
          refine x_bipush (v := 11) dX6_isLike_32 (by decide) ?_
          refine x_icmp_ne (tgt := 39) dX6_isLike_34 (by decide) (fun c20 => ?_) (fun c20 => ?_)
          · replace hq := hq.1 c20
            exact uX6_isLike_39 hq
          · replace hq := hq.2 c20
            refine xP.pick (lv' := []) [] rfl ?_
            exact uX6_isLike_37 hq
theorem rX6_isLike {G : xG} {fr lo : Nat} {x0 : Nat} {x1 : Nat} {h : xH} {Q : Outcome → xH → Prop} (hq : bX6_isLike G fr lo x0 x1 h Q) : xR G YX6_isLike fr lo [rv x0, rv x1] h Q := by
  show xP _ _ _ _ _ (lv_args 0 _) _ _ _
  rw [show lv_args 0 [rv x0, rv x1] = [(0, rv x0), (1, rv x1)] from (xla1 (rv_cat _) (xla1 (rv_cat _) xla0))]
  exact uX6_isLike hq
set_option maxRecDepth 100000 in
theorem dX6_isPointer_0 : decode cX6_isPointer 0 = .ok (.aload_n 0, 1) := by decide +kernel
set_option maxRecDepth 100000 in
theorem dX6_isPointer_1 : decode cX6_isPointer 1 = .ok (.getfield 24, 3) := by decide +kernel
set_option maxRecDepth 100000 in
theorem dX6_isPointer_4 : decode cX6_isPointer 4 = .ok (.bipush 9, 2) := by decide +kernel
set_option maxRecDepth 100000 in
theorem dX6_isPointer_6 : decode cX6_isPointer 6 = .ok (.if_icmp .eq 12, 3) := by decide +kernel
set_option maxRecDepth 100000 in
theorem dX6_isPointer_9 : decode cX6_isPointer 9 = .ok (.aload_n 0, 1) := by decide +kernel
set_option maxRecDepth 100000 in
theorem dX6_isPointer_10 : decode cX6_isPointer 10 = .ok (.getfield 24, 3) := by decide +kernel
set_option maxRecDepth 100000 in
theorem dX6_isPointer_13 : decode cX6_isPointer 13 = .ok (.bipush 11, 2) := by decide +kernel
set_option maxRecDepth 100000 in
theorem dX6_isPointer_15 : decode cX6_isPointer 15 = .ok (.if_icmp .ne 7, 3) := by decide +kernel
set_option maxRecDepth 100000 in
theorem dX6_isPointer_18 : decode cX6_isPointer 18 = .ok (.iconst 1, 1) := by decide +kernel
set_option maxRecDepth 100000 in
theorem dX6_isPointer_19 : decode cX6_isPointer 19 = .ok (.goto 4, 3) := by decide +kernel
set_option maxRecDepth 100000 in
theorem dX6_isPointer_22 : decode cX6_isPointer 22 = .ok (.iconst 0, 1) := by decide +kernel
set_option maxRecDepth 100000 in
theorem dX6_isPointer_23 : decode cX6_isPointer 23 = .ok (.ireturn, 1) := by decide +kernel
set_option maxRecDepth 100000 in
def bX6_isPointer_23 (G : xG) (fr lo : Nat) (s0 : Int32) (h : xH) (Q : Outcome → xH → Prop) : Prop := xbz s0 ∧ Q (.returned (some (.int s0))) h
set_option maxRecDepth 100000 in
theorem uX6_isPointer_23 {G : xG} {fr lo : Nat} {s0 : Int32} {h : xH} {Q : Outcome → xH → Prop} (hq : bX6_isPointer_23 G fr lo s0 h Q) : xP G YX6_isPointer fr lo 23 [] [.int s0] h Q := by
  unfold bX6_isPointer_23 at hq
  obtain ⟨g1, hq⟩ := hq
  exact x_iret rfl (xnZ g1) dX6_isPointer_23 hq
set_option maxRecDepth 100000 in
def bX6_isPointer_18 (G : xG) (fr lo : Nat) (h : xH) (Q : Outcome → xH → Prop) : Prop := bX6_isPointer_23 G fr lo 1 h Q
set_option maxRecDepth 100000 in
theorem uX6_isPointer_18 {G : xG} {fr lo : Nat} {h : xH} {Q : Outcome → xH → Prop} (hq : bX6_isPointer_18 G fr lo h Q) : xP G YX6_isPointer fr lo 18 [] [] h Q := by
  unfold bX6_isPointer_18 at hq
  refine x_iconst (v := 1) dX6_isPointer_18 (by decide) ?_
  refine x_goto (tgt := 23) dX6_isPointer_19 (by decide) ?_
  exact uX6_isPointer_23 hq
set_option maxRecDepth 100000 in
def bX6_isPointer (G : xG) (fr lo : Nat) (x0 : Nat) (h : xH) (Q : Outcome → xH → Prop) : Prop := tg h x0 = 7 ∧ (((fI h x0 1536) = 9 → bX6_isPointer_18 G fr lo h Q) ∧ (¬ (fI h x0 1536) = 9 → ((¬ (fI h x0 1536) = 11 → bX6_isPointer_23 G fr lo 0 h Q) ∧ ((fI h x0 1536) = 11 → bX6_isPointer_18 G fr lo h Q))))
set_option maxRecDepth 100000 in
theorem uX6_isPointer {G : xG} {fr lo : Nat} {x0 : Nat} {h : xH} {Q : Outcome → xH → Prop} (hq : bX6_isPointer G fr lo x0 h Q) : xP G YX6_isPointer fr lo 0 [(0, rv x0)] [] h Q := by
  unfold bX6_isPointer at hq
  refine x_aload_n 0 dX6_isPointer_0 rfl ?_
  obtain ⟨g1, hq⟩ := hq
  refine x_get (v := .int (fI h x0 1536)) fdX6_24 dX6_isPointer_1 g1 rfl ?_
  refine x_bipush (v := 9) dX6_isPointer_4 (by decide) ?_
  refine x_icmp_eq (tgt := 18) dX6_isPointer_6 (by decide) (fun c2 => ?_) (fun c2 => ?_)
  · replace hq := hq.1 c2
    refine xP.pick (lv' := []) [] rfl ?_
    exact uX6_isPointer_18 hq
  · replace hq := hq.2 c2
    refine x_aload_n 0 dX6_isPointer_9 rfl ?_
    refine x_get (v := .int (fI h x0 1536)) fdX6_24 dX6_isPointer_10 g1 rfl ?_
    refine x_bipush (v := 11) dX6_isPointer_13 (by decide) ?_
    refine x_icmp_ne (tgt := 22) dX6_isPointer_15 (by decide) (fun c3 => ?_) (fun c3 => ?_)
    · replace hq := hq.1 c3
      refine x_iconst (v := 0) dX6_isPointer_22 (by decide) ?_
      refine xP.pick (lv' := []) [] rfl ?_
      exact uX6_isPointer_23 hq
    · replace hq := hq.2 c3
      refine xP.pick (lv' := []) [] rfl ?_
      exact uX6_isPointer_18 hq
theorem rX6_isPointer {G : xG} {fr lo : Nat} {x0 : Nat} {h : xH} {Q : Outcome → xH → Prop} (hq : bX6_isPointer G fr lo x0 h Q) : xR G YX6_isPointer fr lo [rv x0] h Q := by
  show xP _ _ _ _ _ (lv_args 0 _) _ _ _
  rw [show lv_args 0 [rv x0] = [(0, rv x0)] from (xla1 (rv_cat _) xla0)]
  exact uX6_isPointer hq
set_option maxRecDepth 100000 in
theorem dX6_isSet_0 : decode cX6_isSet 0 = .ok (.aload_n 0, 1) := by decide +kernel
set_option maxRecDepth 100000 in
theorem dX6_isSet_1 : decode cX6_isSet 1 = .ok (.getfield 24, 3) := by decide +kernel
set_option maxRecDepth 100000 in
theorem dX6_isSet_4 : decode cX6_isSet 4 = .ok (.bipush 8, 2) := by decide +kernel
set_option maxRecDepth 100000 in
theorem dX6_isSet_6 : decode cX6_isSet 6 = .ok (.if_icmp .eq 12, 3) := by decide +kernel
set_option maxRecDepth 100000 in
theorem dX6_isSet_9 : decode cX6_isSet 9 = .ok (.aload_n 0, 1) := by decide +kernel
set_option maxRecDepth 100000 in
theorem dX6_isSet_10 : decode cX6_isSet 10 = .ok (.getfield 24, 3) := by decide +kernel
set_option maxRecDepth 100000 in
theorem dX6_isSet_13 : decode cX6_isSet 13 = .ok (.bipush 12, 2) := by decide +kernel
set_option maxRecDepth 100000 in
theorem dX6_isSet_15 : decode cX6_isSet 15 = .ok (.if_icmp .ne 7, 3) := by decide +kernel
set_option maxRecDepth 100000 in
theorem dX6_isSet_18 : decode cX6_isSet 18 = .ok (.iconst 1, 1) := by decide +kernel
set_option maxRecDepth 100000 in
theorem dX6_isSet_19 : decode cX6_isSet 19 = .ok (.goto 4, 3) := by decide +kernel
set_option maxRecDepth 100000 in
theorem dX6_isSet_22 : decode cX6_isSet 22 = .ok (.iconst 0, 1) := by decide +kernel
set_option maxRecDepth 100000 in
theorem dX6_isSet_23 : decode cX6_isSet 23 = .ok (.ireturn, 1) := by decide +kernel
set_option maxRecDepth 100000 in
def bX6_isSet_23 (G : xG) (fr lo : Nat) (s0 : Int32) (h : xH) (Q : Outcome → xH → Prop) : Prop := xbz s0 ∧ Q (.returned (some (.int s0))) h
set_option maxRecDepth 100000 in
theorem uX6_isSet_23 {G : xG} {fr lo : Nat} {s0 : Int32} {h : xH} {Q : Outcome → xH → Prop} (hq : bX6_isSet_23 G fr lo s0 h Q) : xP G YX6_isSet fr lo 23 [] [.int s0] h Q := by
  unfold bX6_isSet_23 at hq
  obtain ⟨g1, hq⟩ := hq
  exact x_iret rfl (xnZ g1) dX6_isSet_23 hq
set_option maxRecDepth 100000 in
def bX6_isSet_18 (G : xG) (fr lo : Nat) (h : xH) (Q : Outcome → xH → Prop) : Prop := bX6_isSet_23 G fr lo 1 h Q
set_option maxRecDepth 100000 in
theorem uX6_isSet_18 {G : xG} {fr lo : Nat} {h : xH} {Q : Outcome → xH → Prop} (hq : bX6_isSet_18 G fr lo h Q) : xP G YX6_isSet fr lo 18 [] [] h Q := by
  unfold bX6_isSet_18 at hq
  refine x_iconst (v := 1) dX6_isSet_18 (by decide) ?_
  refine x_goto (tgt := 23) dX6_isSet_19 (by decide) ?_
  exact uX6_isSet_23 hq
set_option maxRecDepth 100000 in
def bX6_isSet (G : xG) (fr lo : Nat) (x0 : Nat) (h : xH) (Q : Outcome → xH → Prop) : Prop := tg h x0 = 7 ∧ (((fI h x0 1536) = 8 → bX6_isSet_18 G fr lo h Q) ∧ (¬ (fI h x0 1536) = 8 → ((¬ (fI h x0 1536) = 12 → bX6_isSet_23 G fr lo 0 h Q) ∧ ((fI h x0 1536) = 12 → bX6_isSet_18 G fr lo h Q))))
set_option maxRecDepth 100000 in
theorem uX6_isSet {G : xG} {fr lo : Nat} {x0 : Nat} {h : xH} {Q : Outcome → xH → Prop} (hq : bX6_isSet G fr lo x0 h Q) : xP G YX6_isSet fr lo 0 [(0, rv x0)] [] h Q := by
  unfold bX6_isSet at hq
  refine x_aload_n 0 dX6_isSet_0 rfl ?_
  obtain ⟨g1, hq⟩ := hq
  refine x_get (v := .int (fI h x0 1536)) fdX6_24 dX6_isSet_1 g1 rfl ?_
  refine x_bipush (v := 8) dX6_isSet_4 (by decide) ?_
  refine x_icmp_eq (tgt := 18) dX6_isSet_6 (by decide) (fun c2 => ?_) (fun c2 => ?_)
  · replace hq := hq.1 c2
    refine xP.pick (lv' := []) [] rfl ?_
    exact uX6_isSet_18 hq
  · replace hq := hq.2 c2
    refine x_aload_n 0 dX6_isSet_9 rfl ?_
    refine x_get (v := .int (fI h x0 1536)) fdX6_24 dX6_isSet_10 g1 rfl ?_
    refine x_bipush (v := 12) dX6_isSet_13 (by decide) ?_
    refine x_icmp_ne (tgt := 22) dX6_isSet_15 (by decide) (fun c3 => ?_) (fun c3 => ?_)
    · replace hq := hq.1 c3
      refine x_iconst (v := 0) dX6_isSet_22 (by decide) ?_
      refine xP.pick (lv' := []) [] rfl ?_
      exact uX6_isSet_23 hq
    · replace hq := hq.2 c3
      refine xP.pick (lv' := []) [] rfl ?_
      exact uX6_isSet_18 hq
theorem rX6_isSet {G : xG} {fr lo : Nat} {x0 : Nat} {h : xH} {Q : Outcome → xH → Prop} (hq : bX6_isSet G fr lo x0 h Q) : xR G YX6_isSet fr lo [rv x0] h Q := by
  show xP _ _ _ _ _ (lv_args 0 _) _ _ _
  rw [show lv_args 0 [rv x0] = [(0, rv x0)] from (xla1 (rv_cat _) xla0)]
  exact uX6_isSet hq
set_option maxRecDepth 100000 in
theorem dX6_string_0 : decode cX6_string 0 = .ok (.aload_n 0, 1) := by decide +kernel
set_option maxRecDepth 100000 in
theorem dX6_string_1 : decode cX6_string 1 = .ok (.getfield 24, 3) := by decide +kernel
set_option maxRecDepth 100000 in
theorem dX6_string_4 : decode cX6_string 4 = .ok (.bipush 13, 2) := by decide +kernel
set_option maxRecDepth 100000 in
theorem dX6_string_6 : decode cX6_string 6 = .ok (.if_icmp .ne 8, 3) := by decide +kernel
set_option maxRecDepth 100000 in
theorem dX6_string_9 : decode cX6_string 9 = .ok (.aload_n 0, 1) := by decide +kernel
set_option maxRecDepth 100000 in
theorem dX6_string_10 : decode cX6_string 10 = .ok (.getfield 30, 3) := by decide +kernel
set_option maxRecDepth 100000 in
theorem dX6_string_13 : decode cX6_string 13 = .ok (.ireturn, 1) := by decide +kernel
set_option maxRecDepth 100000 in
theorem dX6_string_14 : decode cX6_string 14 = .ok (.aload_n 0, 1) := by decide +kernel
set_option maxRecDepth 100000 in
theorem dX6_string_15 : decode cX6_string 15 = .ok (.getfield 24, 3) := by decide +kernel
set_option maxRecDepth 100000 in
theorem dX6_string_18 : decode cX6_string 18 = .ok (.bipush 6, 2) := by decide +kernel
set_option maxRecDepth 100000 in
theorem dX6_string_20 : decode cX6_string 20 = .ok (.if_icmp .ne 64, 3) := by decide +kernel
set_option maxRecDepth 100000 in
theorem dX6_string_23 : decode cX6_string 23 = .ok (.aload_n 0, 1) := by decide +kernel
set_option maxRecDepth 100000 in
theorem dX6_string_24 : decode cX6_string 24 = .ok (.getfield 33, 3) := by decide +kernel
set_option maxRecDepth 100000 in
theorem dX6_string_27 : decode cX6_string 27 = .ok (.getfield 24, 3) := by decide +kernel
set_option maxRecDepth 100000 in
theorem dX6_string_30 : decode cX6_string 30 = .ok (.iconst 3, 1) := by decide +kernel
set_option maxRecDepth 100000 in
theorem dX6_string_31 : decode cX6_string 31 = .ok (.if_icmp .ne 53, 3) := by decide +kernel
set_option maxRecDepth 100000 in
theorem dX6_string_34 : decode cX6_string 34 = .ok (.aload_n 0, 1) := by decide +kernel
set_option maxRecDepth 100000 in
theorem dX6_string_35 : decode cX6_string 35 = .ok (.getfield 44, 3) := by decide +kernel
set_option maxRecDepth 100000 in
theorem dX6_string_38 : decode cX6_string 38 = .ok (.getfield 24, 3) := by decide +kernel
set_option maxRecDepth 100000 in
theorem dX6_string_41 : decode cX6_string 41 = .ok (.iconst 5, 1) := by decide +kernel
set_option maxRecDepth 100000 in
theorem dX6_string_42 : decode cX6_string 42 = .ok (.if_icmp .ne 42, 3) := by decide +kernel
set_option maxRecDepth 100000 in
theorem dX6_string_45 : decode cX6_string 45 = .ok (.aload_n 0, 1) := by decide +kernel
set_option maxRecDepth 100000 in
theorem dX6_string_46 : decode cX6_string 46 = .ok (.getfield 44, 3) := by decide +kernel
set_option maxRecDepth 100000 in
theorem dX6_string_49 : decode cX6_string 49 = .ok (.getfield 37, 3) := by decide +kernel
set_option maxRecDepth 100000 in
theorem dX6_string_52 : decode cX6_string 52 = .ok (.getfield 24, 3) := by decide +kernel
set_option maxRecDepth 100000 in
theorem dX6_string_55 : decode cX6_string 55 = .ok (.ifCond .ne 29, 3) := by decide +kernel
set_option maxRecDepth 100000 in
theorem dX6_string_58 : decode cX6_string 58 = .ok (.aload_n 0, 1) := by decide +kernel
set_option maxRecDepth 100000 in
theorem dX6_string_59 : decode cX6_string 59 = .ok (.getfield 44, 3) := by decide +kernel
set_option maxRecDepth 100000 in
theorem dX6_string_62 : decode cX6_string 62 = .ok (.getfield 27, 3) := by decide +kernel
set_option maxRecDepth 100000 in
theorem dX6_string_65 : decode cX6_string 65 = .ok (.iconst 1, 1) := by decide +kernel
set_option maxRecDepth 100000 in
theorem dX6_string_66 : decode cX6_string 66 = .ok (.if_icmp .ne 18, 3) := by decide +kernel
set_option maxRecDepth 100000 in
theorem dX6_string_69 : decode cX6_string 69 = .ok (.aload_n 0, 1) := by decide +kernel
set_option maxRecDepth 100000 in
theorem dX6_string_70 : decode cX6_string 70 = .ok (.getfield 44, 3) := by decide +kernel
set_option maxRecDepth 100000 in
theorem dX6_string_73 : decode cX6_string 73 = .ok (.getfield 30, 3) := by decide +kernel
set_option maxRecDepth 100000 in
theorem dX6_string_76 : decode cX6_string 76 = .ok (.iconst 1, 1) := by decide +kernel
set_option maxRecDepth 100000 in
theorem dX6_string_77 : decode cX6_string 77 = .ok (.if_icmp .le 7, 3) := by decide +kernel
set_option maxRecDepth 100000 in
theorem dX6_string_80 : decode cX6_string 80 = .ok (.iconst 1, 1) := by decide +kernel
set_option maxRecDepth 100000 in
theorem dX6_string_81 : decode cX6_string 81 = .ok (.goto 4, 3) := by decide +kernel
set_option maxRecDepth 100000 in
theorem dX6_string_84 : decode cX6_string 84 = .ok (.iconst 0, 1) := by decide +kernel
set_option maxRecDepth 100000 in
theorem dX6_string_85 : decode cX6_string 85 = .ok (.istore_n 1, 1) := by decide +kernel
set_option maxRecDepth 100000 in
theorem dX6_string_86 : decode cX6_string 86 = .ok (.iload_n 1, 1) := by decide +kernel
set_option maxRecDepth 100000 in
theorem dX6_string_87 : decode cX6_string 87 = .ok (.ifCond .eq 13, 3) := by decide +kernel
set_option maxRecDepth 100000 in
theorem dX6_string_90 : decode cX6_string 90 = .ok (.aload_n 0, 1) := by decide +kernel
set_option maxRecDepth 100000 in
theorem dX6_string_91 : decode cX6_string 91 = .ok (.getfield 44, 3) := by decide +kernel
set_option maxRecDepth 100000 in
theorem dX6_string_94 : decode cX6_string 94 = .ok (.getfield 30, 3) := by decide +kernel
set_option maxRecDepth 100000 in
theorem dX6_string_97 : decode cX6_string 97 = .ok (.goto 4, 3) := by decide +kernel
set_option maxRecDepth 100000 in
theorem dX6_string_100 : decode cX6_string 100 = .ok (.iconst 0, 1) := by decide +kernel
set_option maxRecDepth 100000 in
theorem dX6_string_101 : decode cX6_string 101 = .ok (.ireturn, 1) := by decide +kernel
set_option maxRecDepth 100000 in
def bX6_string_101 (G : xG) (fr lo : Nat) (s0 : Int32) (h : xH) (Q : Outcome → xH → Prop) : Prop := Q (.returned (some (.int s0))) h
set_option maxRecDepth 100000 in
theorem uX6_string_101 {G : xG} {fr lo : Nat} {s0 : Int32} {h : xH} {Q : Outcome → xH → Prop} (hq : bX6_string_101 G fr lo s0 h Q) : xP G YX6_string fr lo 101 [] [.int s0] h Q := by
  unfold bX6_string_101 at hq
  exact x_iret rfl rfl dX6_string_101 hq
set_option maxRecDepth 100000 in
def bX6_string_85 (G : xG) (fr lo : Nat) (x0 : Nat) (s0 : Int32) (h : xH) (Q : Outcome → xH → Prop) : Prop := ((s0 = 0 → bX6_string_101 G fr lo 0 h Q) ∧ (¬ s0 = 0 → tg h x0 = 7 ∧ tg h (fR h x0 1539) = 7 ∧ bX6_string_101 G fr lo (fI h (fR h x0 1539) 1542) h Q))
set_option maxRecDepth 100000 in
theorem uX6_string_85 {G : xG} {fr lo : Nat} {x0 : Nat} {s0 : Int32} {h : xH} {Q : Outcome → xH → Prop} (hq : bX6_string_85 G fr lo x0 s0 h Q) : xP G YX6_string fr lo 85 [(0, rv x0)] [.int s0] h Q := by
  unfold bX6_string_85 at hq
  refine x_istore_n (lv' := [(1, .int s0), (0, rv x0)]) dX6_string_85 (by decide) (by first | rfl | (simp [rv_cat, Value.category]; done) | (simp [rv_cat, Value.category]; decide)) ?_
  refine x_iload_n 0 dX6_string_86 rfl ?_
  refine x_if_eq (tgt := 100) dX6_string_87 (by decide) (fun c1 => ?_) (fun c1 => ?_)
  · replace hq := hq.1 c1
    refine x_iconst (v := 0) dX6_string_100 (by decide) ?_
    refine xP.pick (lv' := []) [] rfl ?_
    exact uX6_string_101 hq
  · replace hq := hq.2 c1
    refine x_aload_n 1 dX6_string_90 rfl ?_
    obtain ⟨g2, hq⟩ := hq
    refine x_get (v := rv (fR h x0 1539)) fdX6_44 dX6_string_91 g2 rfl ?_
    obtain ⟨g3, hq⟩ := hq
    refine x_get (v := .int (fI h (fR h x0 1539) 1542)) fdX6_30 dX6_string_94 g3 rfl ?_
    refine x_goto (tgt := 101) dX6_string_97 (by decide) ?_
    refine xP.pick (lv' := []) [] rfl ?_
    exact uX6_string_101 hq
set_option maxRecDepth 100000 in
def bX6_string_84 (G : xG) (fr lo : Nat) (x0 : Nat) (h : xH) (Q : Outcome → xH → Prop) : Prop := bX6_string_85 G fr lo x0 0 h Q
set_option maxRecDepth 100000 in
theorem uX6_string_84 {G : xG} {fr lo : Nat} {x0 : Nat} {h : xH} {Q : Outcome → xH → Prop} (hq : bX6_string_84 G fr lo x0 h Q) : xP G YX6_string fr lo 84 [(0, rv x0)] [] h Q := by
  unfold bX6_string_84 at hq
  refine x_iconst (v := 0) dX6_string_84 (by decide) ?_
  exact uX6_string_85 hq
set_option maxRecDepth 100000 in
def bX6_string (G : xG) (fr lo : Nat) (x0 : Nat) (h : xH) (Q : Outcome → xH → Prop) : Prop := tg h x0 = 7 ∧ ((¬ (fI h x0 1536) = 13 → ((¬ (fI h x0 1536) = 6 → bX6_string_84 G fr lo x0 h Q) ∧ ((fI h x0 1536) = 6 → tg h (fR h x0 1538) = 7 ∧ ((¬ (fI h (fR h x0 1538) 1536) = 3 → bX6_string_84 G fr lo x0 h Q) ∧ ((fI h (fR h x0 1538) 1536) = 3 → tg h (fR h x0 1539) = 7 ∧ ((¬ (fI h (fR h x0 1539) 1536) = 5 → bX6_string_84 G fr lo x0 h Q) ∧ ((fI h (fR h x0 1539) 1536) = 5 → tg h (fR h (fR h x0 1539) 1537) = 7 ∧ ((¬ (fI h (fR h (fR h x0 1539) 1537) 1536) = 0 → bX6_string_84 G fr lo x0 h Q) ∧ ((fI h (fR h (fR h x0 1539) 1537) 1536) = 0 → ((¬ (fI h (fR h x0 1539) 1541) = 1 → bX6_string_84 G fr lo x0 h Q) ∧ ((fI h (fR h x0 1539) 1541) = 1 → (((fI h (fR h x0 1539) 1542) ≤ 1 → bX6_string_84 G fr lo x0 h Q) ∧ (¬ (fI h (fR h x0 1539) 1542) ≤ 1 → bX6_string_85 G fr lo x0 1 h Q))))))))))))) ∧ ((fI h x0 1536) = 13 → Q (.returned (some (.int (fI h x0 1542)))) h))
set_option maxRecDepth 100000 in
theorem uX6_string {G : xG} {fr lo : Nat} {x0 : Nat} {h : xH} {Q : Outcome → xH → Prop} (hq : bX6_string G fr lo x0 h Q) : xP G YX6_string fr lo 0 [(0, rv x0)] [] h Q := by
  unfold bX6_string at hq
  refine x_aload_n 0 dX6_string_0 rfl ?_
  obtain ⟨g1, hq⟩ := hq
  refine x_get (v := .int (fI h x0 1536)) fdX6_24 dX6_string_1 g1 rfl ?_
  refine x_bipush (v := 13) dX6_string_4 (by decide) ?_
  refine x_icmp_ne (tgt := 14) dX6_string_6 (by decide) (fun c2 => ?_) (fun c2 => ?_)
  · replace hq := hq.1 c2
    refine x_aload_n 0 dX6_string_14 rfl ?_
    refine x_get (v := .int (fI h x0 1536)) fdX6_24 dX6_string_15 g1 rfl ?_
    refine x_bipush (v := 6) dX6_string_18 (by decide) ?_
    refine x_icmp_ne (tgt := 84) dX6_string_20 (by decide) (fun c3 => ?_) (fun c3 => ?_)
    · replace hq := hq.1 c3
      exact uX6_string_84 hq
    · replace hq := hq.2 c3
      refine x_aload_n 0 dX6_string_23 rfl ?_
      refine x_get (v := rv (fR h x0 1538)) fdX6_33 dX6_string_24 g1 rfl ?_
      obtain ⟨g4, hq⟩ := hq
      refine x_get (v := .int (fI h (fR h x0 1538) 1536)) fdX6_24 dX6_string_27 g4 rfl ?_
      refine x_iconst (v := 3) dX6_string_30 (by decide) ?_
      refine x_icmp_ne (tgt := 84) dX6_string_31 (by decide) (fun c5 => ?_) (fun c5 => ?_)
      · replace hq := hq.1 c5
        exact uX6_string_84 hq
      · replace hq := hq.2 c5
        refine x_aload_n 0 dX6_string_34 rfl ?_
        refine x_get (v := rv (fR h x0 1539)) fdX6_44 dX6_string_35 g1 rfl ?_
        obtain ⟨g6, hq⟩ := hq
        refine x_get (v := .int (fI h (fR h x0 1539) 1536)) fdX6_24 dX6_string_38 g6 rfl ?_
        refine x_iconst (v := 5) dX6_string_41 (by decide) ?_
        refine x_icmp_ne (tgt := 84) dX6_string_42 (by decide) (fun c7 => ?_) (fun c7 => ?_)
        · replace hq := hq.1 c7
          exact uX6_string_84 hq
        · replace hq := hq.2 c7
          refine x_aload_n 0 dX6_string_45 rfl ?_
          refine x_get (v := rv (fR h x0 1539)) fdX6_44 dX6_string_46 g1 rfl ?_
          refine x_get (v := rv (fR h (fR h x0 1539) 1537)) fdX6_37 dX6_string_49 g6 rfl ?_
          obtain ⟨g8, hq⟩ := hq
          refine x_get (v := .int (fI h (fR h (fR h x0 1539) 1537) 1536)) fdX6_24 dX6_string_52 g8 rfl ?_
          refine x_if_ne (tgt := 84) dX6_string_55 (by decide) (fun c9 => ?_) (fun c9 => ?_)
          · replace hq := hq.1 c9
            exact uX6_string_84 hq
          · replace hq := hq.2 c9
            refine x_aload_n 0 dX6_string_58 rfl ?_
            refine x_get (v := rv (fR h x0 1539)) fdX6_44 dX6_string_59 g1 rfl ?_
            refine x_get (v := .int (fI h (fR h x0 1539) 1541)) fdX6_27 dX6_string_62 g6 rfl ?_
            refine x_iconst (v := 1) dX6_string_65 (by decide) ?_
            refine x_icmp_ne (tgt := 84) dX6_string_66 (by decide) (fun c10 => ?_) (fun c10 => ?_)
            · replace hq := hq.1 c10
              exact uX6_string_84 hq
            · replace hq := hq.2 c10
              refine x_aload_n 0 dX6_string_69 rfl ?_
              refine x_get (v := rv (fR h x0 1539)) fdX6_44 dX6_string_70 g1 rfl ?_
              refine x_get (v := .int (fI h (fR h x0 1539) 1542)) fdX6_30 dX6_string_73 g6 rfl ?_
              refine x_iconst (v := 1) dX6_string_76 (by decide) ?_
              refine x_icmp_le (tgt := 84) dX6_string_77 (by decide) (fun c11 => ?_) (fun c11 => ?_)
              · replace hq := hq.1 c11
                exact uX6_string_84 hq
              · replace hq := hq.2 c11
                refine x_iconst (v := 1) dX6_string_80 (by decide) ?_
                refine x_goto (tgt := 85) dX6_string_81 (by decide) ?_
                exact uX6_string_85 hq
  · replace hq := hq.2 c2
    refine x_aload_n 0 dX6_string_9 rfl ?_
    refine x_get (v := .int (fI h x0 1542)) fdX6_30 dX6_string_10 g1 rfl ?_
    exact x_iret rfl rfl dX6_string_13 hq
theorem rX6_string {G : xG} {fr lo : Nat} {x0 : Nat} {h : xH} {Q : Outcome → xH → Prop} (hq : bX6_string G fr lo x0 h Q) : xR G YX6_string fr lo [rv x0] h Q := by
  show xP _ _ _ _ _ (lv_args 0 _) _ _ _
  rw [show lv_args 0 [rv x0] = [(0, rv x0)] from (xla1 (rv_cat _) xla0)]
  exact uX6_string hq
set_option maxRecDepth 100000 in
theorem dX6_isText_0 : decode cX6_isText 0 = .ok (.aload_n 0, 1) := by decide +kernel
set_option maxRecDepth 100000 in
theorem dX6_isText_1 : decode cX6_isText 1 = .ok (.getfield 24, 3) := by decide +kernel
set_option maxRecDepth 100000 in
theorem dX6_isText_4 : decode cX6_isText 4 = .ok (.bipush 10, 2) := by decide +kernel
set_option maxRecDepth 100000 in
theorem dX6_isText_6 : decode cX6_isText 6 = .ok (.if_icmp .ne 18, 3) := by decide +kernel
set_option maxRecDepth 100000 in
theorem dX6_isText_9 : decode cX6_isText 9 = .ok (.aload_n 0, 1) := by decide +kernel
set_option maxRecDepth 100000 in
theorem dX6_isText_10 : decode cX6_isText 10 = .ok (.getfield 33, 3) := by decide +kernel
set_option maxRecDepth 100000 in
theorem dX6_isText_13 : decode cX6_isText 13 = .ok (.getfield 24, 3) := by decide +kernel
set_option maxRecDepth 100000 in
theorem dX6_isText_16 : decode cX6_isText 16 = .ok (.iconst 3, 1) := by decide +kernel
set_option maxRecDepth 100000 in
theorem dX6_isText_17 : decode cX6_isText 17 = .ok (.if_icmp .ne 7, 3) := by decide +kernel
set_option maxRecDepth 100000 in
theorem dX6_isText_20 : decode cX6_isText 20 = .ok (.iconst 1, 1) := by decide +kernel
set_option maxRecDepth 100000 in
theorem dX6_isText_21 : decode cX6_isText 21 = .ok (.goto 4, 3) := by decide +kernel
set_option maxRecDepth 100000 in
theorem dX6_isText_24 : decode cX6_isText 24 = .ok (.iconst 0, 1) := by decide +kernel
set_option maxRecDepth 100000 in
theorem dX6_isText_25 : decode cX6_isText 25 = .ok (.ireturn, 1) := by decide +kernel
set_option maxRecDepth 100000 in
def bX6_isText_25 (G : xG) (fr lo : Nat) (s0 : Int32) (h : xH) (Q : Outcome → xH → Prop) : Prop := xbz s0 ∧ Q (.returned (some (.int s0))) h
set_option maxRecDepth 100000 in
theorem uX6_isText_25 {G : xG} {fr lo : Nat} {s0 : Int32} {h : xH} {Q : Outcome → xH → Prop} (hq : bX6_isText_25 G fr lo s0 h Q) : xP G YX6_isText fr lo 25 [] [.int s0] h Q := by
  unfold bX6_isText_25 at hq
  obtain ⟨g1, hq⟩ := hq
  exact x_iret rfl (xnZ g1) dX6_isText_25 hq
set_option maxRecDepth 100000 in
def bX6_isText_24 (G : xG) (fr lo : Nat) (h : xH) (Q : Outcome → xH → Prop) : Prop := bX6_isText_25 G fr lo 0 h Q
set_option maxRecDepth 100000 in
theorem uX6_isText_24 {G : xG} {fr lo : Nat} {h : xH} {Q : Outcome → xH → Prop} (hq : bX6_isText_24 G fr lo h Q) : xP G YX6_isText fr lo 24 [] [] h Q := by
  unfold bX6_isText_24 at hq
  refine x_iconst (v := 0) dX6_isText_24 (by decide) ?_
  exact uX6_isText_25 hq
set_option maxRecDepth 100000 in
def bX6_isText (G : xG) (fr lo : Nat) (x0 : Nat) (h : xH) (Q : Outcome → xH → Prop) : Prop := tg h x0 = 7 ∧ ((¬ (fI h x0 1536) = 10 → bX6_isText_24 G fr lo h Q) ∧ ((fI h x0 1536) = 10 → tg h (fR h x0 1538) = 7 ∧ ((¬ (fI h (fR h x0 1538) 1536) = 3 → bX6_isText_24 G fr lo h Q) ∧ ((fI h (fR h x0 1538) 1536) = 3 → bX6_isText_25 G fr lo 1 h Q))))
set_option maxRecDepth 100000 in
theorem uX6_isText {G : xG} {fr lo : Nat} {x0 : Nat} {h : xH} {Q : Outcome → xH → Prop} (hq : bX6_isText G fr lo x0 h Q) : xP G YX6_isText fr lo 0 [(0, rv x0)] [] h Q := by
  unfold bX6_isText at hq
  refine x_aload_n 0 dX6_isText_0 rfl ?_
  obtain ⟨g1, hq⟩ := hq
  refine x_get (v := .int (fI h x0 1536)) fdX6_24 dX6_isText_1 g1 rfl ?_
  refine x_bipush (v := 10) dX6_isText_4 (by decide) ?_
  refine x_icmp_ne (tgt := 24) dX6_isText_6 (by decide) (fun c2 => ?_) (fun c2 => ?_)
  · replace hq := hq.1 c2
    refine xP.pick (lv' := []) [] rfl ?_
    exact uX6_isText_24 hq
  · replace hq := hq.2 c2
    refine x_aload_n 0 dX6_isText_9 rfl ?_
    refine x_get (v := rv (fR h x0 1538)) fdX6_33 dX6_isText_10 g1 rfl ?_
    obtain ⟨g3, hq⟩ := hq
    refine x_get (v := .int (fI h (fR h x0 1538) 1536)) fdX6_24 dX6_isText_13 g3 rfl ?_
    refine x_iconst (v := 3) dX6_isText_16 (by decide) ?_
    refine x_icmp_ne (tgt := 24) dX6_isText_17 (by decide) (fun c4 => ?_) (fun c4 => ?_)
    · replace hq := hq.1 c4
      refine xP.pick (lv' := []) [] rfl ?_
      exact uX6_isText_24 hq
    · replace hq := hq.2 c4
      refine x_iconst (v := 1) dX6_isText_20 (by decide) ?_
      refine x_goto (tgt := 25) dX6_isText_21 (by decide) ?_
      refine xP.pick (lv' := []) [] rfl ?_
      exact uX6_isText_25 hq
theorem rX6_isText {G : xG} {fr lo : Nat} {x0 : Nat} {h : xH} {Q : Outcome → xH → Prop} (hq : bX6_isText G fr lo x0 h Q) : xR G YX6_isText fr lo [rv x0] h Q := by
  show xP _ _ _ _ _ (lv_args 0 _) _ _ _
  rw [show lv_args 0 [rv x0] = [(0, rv x0)] from (xla1 (rv_cat _) xla0)]
  exact uX6_isText hq
set_option maxRecDepth 100000 in
theorem dX6_isStructure_0 : decode cX6_isStructure 0 = .ok (.aload_n 0, 1) := by decide +kernel
set_option maxRecDepth 100000 in
theorem dX6_isStructure_1 : decode cX6_isStructure 1 = .ok (.getfield 24, 3) := by decide +kernel
set_option maxRecDepth 100000 in
theorem dX6_isStructure_4 : decode cX6_isStructure 4 = .ok (.bipush 6, 2) := by decide +kernel
set_option maxRecDepth 100000 in
theorem dX6_isStructure_6 : decode cX6_isStructure 6 = .ok (.if_icmp .eq 21, 3) := by decide +kernel
set_option maxRecDepth 100000 in
theorem dX6_isStructure_9 : decode cX6_isStructure 9 = .ok (.aload_n 0, 1) := by decide +kernel
set_option maxRecDepth 100000 in
theorem dX6_isStructure_10 : decode cX6_isStructure 10 = .ok (.getfield 24, 3) := by decide +kernel
set_option maxRecDepth 100000 in
theorem dX6_isStructure_13 : decode cX6_isStructure 13 = .ok (.bipush 7, 2) := by decide +kernel
set_option maxRecDepth 100000 in
theorem dX6_isStructure_15 : decode cX6_isStructure 15 = .ok (.if_icmp .eq 12, 3) := by decide +kernel
set_option maxRecDepth 100000 in
theorem dX6_isStructure_18 : decode cX6_isStructure 18 = .ok (.aload_n 0, 1) := by decide +kernel
set_option maxRecDepth 100000 in
theorem dX6_isStructure_19 : decode cX6_isStructure 19 = .ok (.getfield 24, 3) := by decide +kernel
set_option maxRecDepth 100000 in
theorem dX6_isStructure_22 : decode cX6_isStructure 22 = .ok (.bipush 13, 2) := by decide +kernel
set_option maxRecDepth 100000 in
theorem dX6_isStructure_24 : decode cX6_isStructure 24 = .ok (.if_icmp .ne 7, 3) := by decide +kernel
set_option maxRecDepth 100000 in
theorem dX6_isStructure_27 : decode cX6_isStructure 27 = .ok (.iconst 1, 1) := by decide +kernel
set_option maxRecDepth 100000 in
theorem dX6_isStructure_28 : decode cX6_isStructure 28 = .ok (.goto 4, 3) := by decide +kernel
set_option maxRecDepth 100000 in
theorem dX6_isStructure_31 : decode cX6_isStructure 31 = .ok (.iconst 0, 1) := by decide +kernel
set_option maxRecDepth 100000 in
theorem dX6_isStructure_32 : decode cX6_isStructure 32 = .ok (.ireturn, 1) := by decide +kernel
set_option maxRecDepth 100000 in
def bX6_isStructure_32 (G : xG) (fr lo : Nat) (s0 : Int32) (h : xH) (Q : Outcome → xH → Prop) : Prop := xbz s0 ∧ Q (.returned (some (.int s0))) h
set_option maxRecDepth 100000 in
theorem uX6_isStructure_32 {G : xG} {fr lo : Nat} {s0 : Int32} {h : xH} {Q : Outcome → xH → Prop} (hq : bX6_isStructure_32 G fr lo s0 h Q) : xP G YX6_isStructure fr lo 32 [] [.int s0] h Q := by
  unfold bX6_isStructure_32 at hq
  obtain ⟨g1, hq⟩ := hq
  exact x_iret rfl (xnZ g1) dX6_isStructure_32 hq
set_option maxRecDepth 100000 in
def bX6_isStructure_27 (G : xG) (fr lo : Nat) (h : xH) (Q : Outcome → xH → Prop) : Prop := bX6_isStructure_32 G fr lo 1 h Q
set_option maxRecDepth 100000 in
theorem uX6_isStructure_27 {G : xG} {fr lo : Nat} {h : xH} {Q : Outcome → xH → Prop} (hq : bX6_isStructure_27 G fr lo h Q) : xP G YX6_isStructure fr lo 27 [] [] h Q := by
  unfold bX6_isStructure_27 at hq
  refine x_iconst (v := 1) dX6_isStructure_27 (by decide) ?_
  refine x_goto (tgt := 32) dX6_isStructure_28 (by decide) ?_
  exact uX6_isStructure_32 hq
set_option maxRecDepth 100000 in
def bX6_isStructure (G : xG) (fr lo : Nat) (x0 : Nat) (h : xH) (Q : Outcome → xH → Prop) : Prop := tg h x0 = 7 ∧ (((fI h x0 1536) = 6 → bX6_isStructure_27 G fr lo h Q) ∧ (¬ (fI h x0 1536) = 6 → (((fI h x0 1536) = 7 → bX6_isStructure_27 G fr lo h Q) ∧ (¬ (fI h x0 1536) = 7 → ((¬ (fI h x0 1536) = 13 → bX6_isStructure_32 G fr lo 0 h Q) ∧ ((fI h x0 1536) = 13 → bX6_isStructure_27 G fr lo h Q))))))
set_option maxRecDepth 100000 in
theorem uX6_isStructure {G : xG} {fr lo : Nat} {x0 : Nat} {h : xH} {Q : Outcome → xH → Prop} (hq : bX6_isStructure G fr lo x0 h Q) : xP G YX6_isStructure fr lo 0 [(0, rv x0)] [] h Q := by
  unfold bX6_isStructure at hq
  refine x_aload_n 0 dX6_isStructure_0 rfl ?_
  obtain ⟨g1, hq⟩ := hq
  refine x_get (v := .int (fI h x0 1536)) fdX6_24 dX6_isStructure_1 g1 rfl ?_
  refine x_bipush (v := 6) dX6_isStructure_4 (by decide) ?_
  refine x_icmp_eq (tgt := 27) dX6_isStructure_6 (by decide) (fun c2 => ?_) (fun c2 => ?_)
  · replace hq := hq.1 c2
    refine xP.pick (lv' := []) [] rfl ?_
    exact uX6_isStructure_27 hq
  · replace hq := hq.2 c2
    refine x_aload_n 0 dX6_isStructure_9 rfl ?_
    refine x_get (v := .int (fI h x0 1536)) fdX6_24 dX6_isStructure_10 g1 rfl ?_
    refine x_bipush (v := 7) dX6_isStructure_13 (by decide) ?_
    refine x_icmp_eq (tgt := 27) dX6_isStructure_15 (by decide) (fun c3 => ?_) (fun c3 => ?_)
    · replace hq := hq.1 c3
      refine xP.pick (lv' := []) [] rfl ?_
      exact uX6_isStructure_27 hq
    · replace hq := hq.2 c3
      refine x_aload_n 0 dX6_isStructure_18 rfl ?_
      refine x_get (v := .int (fI h x0 1536)) fdX6_24 dX6_isStructure_19 g1 rfl ?_
      refine x_bipush (v := 13) dX6_isStructure_22 (by decide) ?_
      refine x_icmp_ne (tgt := 31) dX6_isStructure_24 (by decide) (fun c4 => ?_) (fun c4 => ?_)
      · replace hq := hq.1 c4
        refine x_iconst (v := 0) dX6_isStructure_31 (by decide) ?_
        refine xP.pick (lv' := []) [] rfl ?_
        exact uX6_isStructure_32 hq
      · replace hq := hq.2 c4
        refine xP.pick (lv' := []) [] rfl ?_
        exact uX6_isStructure_27 hq
theorem rX6_isStructure {G : xG} {fr lo : Nat} {x0 : Nat} {h : xH} {Q : Outcome → xH → Prop} (hq : bX6_isStructure G fr lo x0 h Q) : xR G YX6_isStructure fr lo [rv x0] h Q := by
  show xP _ _ _ _ _ (lv_args 0 _) _ _ _
  rw [show lv_args 0 [rv x0] = [(0, rv x0)] from (xla1 (rv_cat _) xla0)]
  exact uX6_isStructure hq
