/-! PascalHouse$Parameter, walked (1) -/
set_option maxRecDepth 100000 in
theorem dX21_init_0 : decode cX21_init 0 = .ok (.aload_n 0, 1) := by decide +kernel
set_option maxRecDepth 100000 in
theorem dX21_init_1 : decode cX21_init 1 = .ok (.invokespecial 1, 3) := by decide +kernel
set_option maxRecDepth 100000 in
theorem dX21_init_4 : decode cX21_init 4 = .ok (.aload_n 0, 1) := by decide +kernel
set_option maxRecDepth 100000 in
theorem dX21_init_5 : decode cX21_init 5 = .ok (.iload_n 1, 1) := by decide +kernel
set_option maxRecDepth 100000 in
theorem dX21_init_6 : decode cX21_init 6 = .ok (.putfield 7, 3) := by decide +kernel
set_option maxRecDepth 100000 in
theorem dX21_init_9 : decode cX21_init 9 = .ok (.aload_n 0, 1) := by decide +kernel
set_option maxRecDepth 100000 in
theorem dX21_init_10 : decode cX21_init 10 = .ok (.aload_n 2, 1) := by decide +kernel
set_option maxRecDepth 100000 in
theorem dX21_init_11 : decode cX21_init 11 = .ok (.putfield 13, 3) := by decide +kernel
set_option maxRecDepth 100000 in
theorem dX21_init_14 : decode cX21_init 14 = .ok (.aload_n 0, 1) := by decide +kernel
set_option maxRecDepth 100000 in
theorem dX21_init_15 : decode cX21_init 15 = .ok (.aload_n 3, 1) := by decide +kernel
set_option maxRecDepth 100000 in
theorem dX21_init_16 : decode cX21_init 16 = .ok (.putfield 17, 3) := by decide +kernel
set_option maxRecDepth 100000 in
theorem dX21_init_19 : decode cX21_init 19 = .ok (.return_, 1) := by decide +kernel
set_option maxRecDepth 100000 in
def bX21_init (G : xG) (fr lo : Nat) (x0 : Nat) (x1 : Int32) (x2 : Nat) (x3 : Nat) (h : xH) (Q : Outcome → xH → Prop) : Prop := tg h x0 = 22 ∧ 1 ≤ fr ∧ 12 ≤ lo ∧ (∀ h4 : xH, h4 = sI h x0 5376 x1 → (∀ h7 : xH, h7 = sR h4 x0 5377 x2 → (∀ h10 : xH, h10 = sR h7 x0 5378 x3 → Q (.returned none) h10)))
set_option maxRecDepth 100000 in
theorem uX21_init {G : xG} {fr lo : Nat} {x0 : Nat} {x1 : Int32} {x2 : Nat} {x3 : Nat} {h : xH} {Q : Outcome → xH → Prop} (hq : bX21_init G fr lo x0 x1 x2 x3 h Q) : xP G YX21_init fr lo 0 [(0, rv x0), (1, .int x1), (2, rv x2), (3, rv x3)] [] h Q := by
  unfold bX21_init at hq
  refine x_aload_n 0 dX21_init_0 rfl ?_
  obtain ⟨g1, hq⟩ := hq
  obtain ⟨g2, g3, hq⟩ := hq
  refine x_objInit (by rw [g1]; decide) q2460 q438 q439 dX21_init_1 g2 (by simp only [List.map_cons, List.map_nil, List.sum_cons, List.sum_nil, rv_cat, Value.category]; omega) ?_
  refine x_aload_n 0 dX21_init_4 rfl ?_
  refine x_iload_n 1 dX21_init_5 rfl ?_
  obtain ⟨h4, e5⟩ : ∃ y, y = sI h x0 5376 x1 := ⟨_, rfl⟩
  replace hq := hq h4 e5
  refine x_putFI fdX21_7 owX21_init_0 xty_I1 dX21_init_6 g1 (Or.inl (by rw [g1]; rfl)) xnI rfl e5 ?_
  refine x_aload_n 0 dX21_init_9 rfl ?_
  refine x_aload_n 2 dX21_init_10 rfl ?_
  have t6 : tg h4 x0 = 22 := by rw [e5]; exact g1
  obtain ⟨h7, e8⟩ : ∃ y, y = sR h4 x0 5377 x2 := ⟨_, rfl⟩
  replace hq := hq h7 e8
  refine x_putFR fdX21_13 owX21_init_1 xty_O dX21_init_11 t6 (Or.inl (by rw [t6]; rfl)) rfl e8 ?_
  refine x_aload_n 0 dX21_init_14 rfl ?_
  refine x_aload_n 3 dX21_init_15 rfl ?_
  have t9 : tg h7 x0 = 22 := by rw [e8]; exact t6
  obtain ⟨h10, e11⟩ : ∃ y, y = sR h7 x0 5378 x3 := ⟨_, rfl⟩
  replace hq := hq h10 e11
  refine x_putFR fdX21_17 owX21_init_2 xty_O dX21_init_16 t9 (Or.inl (by rw [t9]; rfl)) rfl e11 ?_
  exact x_vret rfl dX21_init_19 hq
theorem rX21_init {G : xG} {fr lo : Nat} {x0 : Nat} {x1 : Int32} {x2 : Nat} {x3 : Nat} {h : xH} {Q : Outcome → xH → Prop} (hq : bX21_init G fr lo x0 x1 x2 x3 h Q) : xR G YX21_init fr lo [rv x0, .int x1, rv x2, rv x3] h Q := by
  show xP _ _ _ _ _ (lv_args 0 _) _ _ _
  rw [show lv_args 0 [rv x0, .int x1, rv x2, rv x3] = [(0, rv x0), (1, .int x1), (2, rv x2), (3, rv x3)] from (xla1 (rv_cat _) (xla1 rfl (xla1 (rv_cat _) (xla1 (rv_cat _) xla0))))]
  exact uX21_init hq
