/-! PascalHouseModel$Symbol, walked (1) -/
set_option maxRecDepth 100000 in
theorem dX23_init_0 : decode cX23_init 0 = .ok (.aload_n 0, 1) := by decide +kernel
set_option maxRecDepth 100000 in
theorem dX23_init_1 : decode cX23_init 1 = .ok (.invokespecial 3, 3) := by decide +kernel
set_option maxRecDepth 100000 in
theorem dX23_init_4 : decode cX23_init 4 = .ok (.aload_n 0, 1) := by decide +kernel
set_option maxRecDepth 100000 in
theorem dX23_init_5 : decode cX23_init 5 = .ok (.new 9, 3) := by decide +kernel
set_option maxRecDepth 100000 in
theorem dX23_init_8 : decode cX23_init 8 = .ok (.dup, 1) := by decide +kernel
set_option maxRecDepth 100000 in
theorem dX23_init_9 : decode cX23_init 9 = .ok (.invokespecial 11, 3) := by decide +kernel
set_option maxRecDepth 100000 in
theorem dX23_init_12 : decode cX23_init 12 = .ok (.putfield 12, 3) := by decide +kernel
set_option maxRecDepth 100000 in
theorem dX23_init_15 : decode cX23_init 15 = .ok (.aload_n 0, 1) := by decide +kernel
set_option maxRecDepth 100000 in
theorem dX23_init_16 : decode cX23_init 16 = .ok (.iconst (-1), 1) := by decide +kernel
set_option maxRecDepth 100000 in
theorem dX23_init_17 : decode cX23_init 17 = .ok (.putfield 18, 3) := by decide +kernel
set_option maxRecDepth 100000 in
theorem dX23_init_20 : decode cX23_init 20 = .ok (.aload_n 0, 1) := by decide +kernel
set_option maxRecDepth 100000 in
theorem dX23_init_21 : decode cX23_init 21 = .ok (.iload_n 1, 1) := by decide +kernel
set_option maxRecDepth 100000 in
theorem dX23_init_22 : decode cX23_init 22 = .ok (.putfield 22, 3) := by decide +kernel
set_option maxRecDepth 100000 in
theorem dX23_init_25 : decode cX23_init 25 = .ok (.aload_n 0, 1) := by decide +kernel
set_option maxRecDepth 100000 in
theorem dX23_init_26 : decode cX23_init 26 = .ok (.iload_n 2, 1) := by decide +kernel
set_option maxRecDepth 100000 in
theorem dX23_init_27 : decode cX23_init 27 = .ok (.putfield 25, 3) := by decide +kernel
set_option maxRecDepth 100000 in
theorem dX23_init_30 : decode cX23_init 30 = .ok (.return_, 1) := by decide +kernel
set_option maxRecDepth 100000 in
def bX23_init (G : xG) (fr lo : Nat) (x0 : Nat) (x1 : Int32) (x2 : Int32) (h : xH) (Q : Outcome → xH → Prop) : Prop := tg h x0 = 24 ∧ 1 ≤ fr ∧ 12 ≤ lo ∧ nx h + 1 ≤ xGN G ∧ us h + 3 ≤ xGU G ∧ (∀ (a6 : Nat) (h7 : xH), a6 = nx h + 1 → h7 = nO h 29 3 → xfresh h a6 → 1 ≤ fr ∧ 14 ≤ lo ∧ xRv G YJ2_init_2 (fr - 1) (lo - 14) [rv a6] h7 (fun h14 => xext h7 h14 → (∀ h19 : xH, h19 = sR h14 x0 5910 a6 → (∀ h22 : xH, h22 = sI h19 x0 5912 (-1) → (∀ h25 : xH, h25 = sI h22 x0 5888 x1 → (∀ h28 : xH, h28 = sI h25 x0 5889 x2 → Q (.returned none) h28))))) (fun r h2 => Q (.threw r) h2))
set_option maxRecDepth 100000 in
theorem uX23_init {G : xG} {fr lo : Nat} {x0 : Nat} {x1 : Int32} {x2 : Int32} {h : xH} {Q : Outcome → xH → Prop} (hq : bX23_init G fr lo x0 x1 x2 h Q) : xP G YX23_init fr lo 0 [(0, rv x0), (1, .int x1), (2, .int x2)] [] h Q := by
  unfold bX23_init at hq
  refine x_aload_n 0 dX23_init_0 rfl ?_
  obtain ⟨g1, hq⟩ := hq
  obtain ⟨g2, g3, hq⟩ := hq
  refine x_objInit (by rw [g1]; decide) q3938 q438 q439 dX23_init_1 g2 (by simp only [List.map_cons, List.map_nil, List.sum_cons, List.sum_nil, rv_cat, Value.category]; omega) ?_
  refine x_aload_n 0 dX23_init_4 rfl ?_
  obtain ⟨g4, g5, hq⟩ := hq
  obtain ⟨a6, e8⟩ : ∃ y, y = nx h + 1 := ⟨_, rfl⟩
  obtain ⟨h7, e9⟩ : ∃ y, y = nO h 29 3 := ⟨_, rfl⟩
  refine x_new' cdX23_9 dX23_init_5 g4 g5 e8 e9 (fun f10 => ?_)
  replace hq := hq a6 h7 e8 e9 f10
  have t11 : tg h7 a6 = 29 := by rw [e9, e8]; exact tg_nO
  refine x_dup dX23_init_8 (rv_cat _) ?_
  obtain ⟨g12, g13, hq⟩ := hq
  refine x_callI (Yc := YJ2_init_2) (as := []) (st := [rv a6, rv x0]) q3940 miJ2_init_2 (by rw [t11]; decide) rfl dX23_init_9 (xle (xal1 (rv_cat _) xal0) (by decide)) (xfr g12) (xlo (xsw1 (rv_cat _) (xsw1 (rv_cat _) xsw0)) (by decide) g13) (xKv hq (fun h14 hq e16 => ?_) (fun _ _ q _ => q))
  replace hq := hq e16
  have t17 : tg h7 x0 = 24 := by rw [e9]; exact tg_nO_ne e8 f10 g1 (by decide)
  have t18 : tg h14 x0 = 24 := e16.tg t17 (by decide)
  obtain ⟨h19, e20⟩ : ∃ y, y = sR h14 x0 5910 a6 := ⟨_, rfl⟩
  replace hq := hq h19 e20
  refine x_putFR fdX23_12 owX23_init_22 xty_O dX23_init_12 t18 (Or.inl (by rw [t18]; rfl)) rfl e20 ?_
  refine x_aload_n 0 dX23_init_15 rfl ?_
  refine x_iconst (v := (-1)) dX23_init_16 (by decide) ?_
  have t21 : tg h19 x0 = 24 := by rw [e20]; exact t18
  obtain ⟨h22, e23⟩ : ∃ y, y = sI h19 x0 5912 (-1) := ⟨_, rfl⟩
  replace hq := hq h22 e23
  refine x_putI fdX23_18 xty_I1 dX23_init_17 t21 (Or.inl (by rw [t21]; rfl)) xnI rfl e23 ?_
  refine x_aload_n 0 dX23_init_20 rfl ?_
  refine x_iload_n 1 dX23_init_21 rfl ?_
  have t24 : tg h22 x0 = 24 := by rw [e23]; exact t21
  obtain ⟨h25, e26⟩ : ∃ y, y = sI h22 x0 5888 x1 := ⟨_, rfl⟩
  replace hq := hq h25 e26
  refine x_putFI fdX23_22 owX23_init_0 xty_I1 dX23_init_22 t24 (Or.inl (by rw [t24]; rfl)) xnI rfl e26 ?_
  refine x_aload_n 0 dX23_init_25 rfl ?_
  refine x_iload_n 2 dX23_init_26 rfl ?_
  have t27 : tg h25 x0 = 24 := by rw [e26]; exact t24
  obtain ⟨h28, e29⟩ : ∃ y, y = sI h25 x0 5889 x2 := ⟨_, rfl⟩
  replace hq := hq h28 e29
  refine x_putFI fdX23_25 owX23_init_1 xty_I1 dX23_init_27 t27 (Or.inl (by rw [t27]; rfl)) xnI rfl e29 ?_
  exact x_vret rfl dX23_init_30 hq
theorem rX23_init {G : xG} {fr lo : Nat} {x0 : Nat} {x1 : Int32} {x2 : Int32} {h : xH} {Q : Outcome → xH → Prop} (hq : bX23_init G fr lo x0 x1 x2 h Q) : xR G YX23_init fr lo [rv x0, .int x1, .int x2] h Q := by
  show xP _ _ _ _ _ (lv_args 0 _) _ _ _
  rw [show lv_args 0 [rv x0, .int x1, .int x2] = [(0, rv x0), (1, .int x1), (2, .int x2)] from (xla1 (rv_cat _) (xla1 rfl (xla1 rfl xla0)))]
  exact uX23_init hq
