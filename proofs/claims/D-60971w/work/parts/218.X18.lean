/-! PascalHouse$Label, walked (1) -/
set_option maxRecDepth 100000 in
theorem dX18_init_0 : decode cX18_init 0 = .ok (.aload_n 0, 1) := by decide +kernel
set_option maxRecDepth 100000 in
theorem dX18_init_1 : decode cX18_init 1 = .ok (.invokespecial 3, 3) := by decide +kernel
set_option maxRecDepth 100000 in
theorem dX18_init_4 : decode cX18_init 4 = .ok (.aload_n 0, 1) := by decide +kernel
set_option maxRecDepth 100000 in
theorem dX18_init_5 : decode cX18_init 5 = .ok (.iconst (-1), 1) := by decide +kernel
set_option maxRecDepth 100000 in
theorem dX18_init_6 : decode cX18_init 6 = .ok (.putfield 9, 3) := by decide +kernel
set_option maxRecDepth 100000 in
theorem dX18_init_9 : decode cX18_init 9 = .ok (.aload_n 0, 1) := by decide +kernel
set_option maxRecDepth 100000 in
theorem dX18_init_10 : decode cX18_init 10 = .ok (.iconst (-1), 1) := by decide +kernel
set_option maxRecDepth 100000 in
theorem dX18_init_11 : decode cX18_init 11 = .ok (.putfield 15, 3) := by decide +kernel
set_option maxRecDepth 100000 in
theorem dX18_init_14 : decode cX18_init 14 = .ok (.aload_n 0, 1) := by decide +kernel
set_option maxRecDepth 100000 in
theorem dX18_init_15 : decode cX18_init 15 = .ok (.iload_n 1, 1) := by decide +kernel
set_option maxRecDepth 100000 in
theorem dX18_init_16 : decode cX18_init 16 = .ok (.putfield 18, 3) := by decide +kernel
set_option maxRecDepth 100000 in
theorem dX18_init_19 : decode cX18_init 19 = .ok (.aload_n 0, 1) := by decide +kernel
set_option maxRecDepth 100000 in
theorem dX18_init_20 : decode cX18_init 20 = .ok (.iload_n 2, 1) := by decide +kernel
set_option maxRecDepth 100000 in
theorem dX18_init_21 : decode cX18_init 21 = .ok (.putfield 21, 3) := by decide +kernel
set_option maxRecDepth 100000 in
theorem dX18_init_24 : decode cX18_init 24 = .ok (.return_, 1) := by decide +kernel
set_option maxRecDepth 100000 in
def bX18_init (G : xG) (fr lo : Nat) (x0 : Nat) (x1 : Int32) (x2 : Int32) (h : xH) (Q : Outcome → xH → Prop) : Prop := tg h x0 = 19 ∧ 1 ≤ fr ∧ 12 ≤ lo ∧ (∀ h4 : xH, h4 = sI h x0 4611 (-1) → (∀ h7 : xH, h7 = sI h4 x0 4612 (-1) → (∀ h10 : xH, h10 = sI h7 x0 4608 x1 → (∀ h13 : xH, h13 = sI h10 x0 4609 x2 → Q (.returned none) h13))))
set_option maxRecDepth 100000 in
theorem uX18_init {G : xG} {fr lo : Nat} {x0 : Nat} {x1 : Int32} {x2 : Int32} {h : xH} {Q : Outcome → xH → Prop} (hq : bX18_init G fr lo x0 x1 x2 h Q) : xP G YX18_init fr lo 0 [(0, rv x0), (1, .int x1), (2, .int x2)] [] h Q := by
  unfold bX18_init at hq
  refine x_aload_n 0 dX18_init_0 rfl ?_
  obtain ⟨g1, hq⟩ := hq
  obtain ⟨g2, g3, hq⟩ := hq
  refine x_objInit (by rw [g1]; decide) q2208 q438 q439 dX18_init_1 g2 (by simp only [List.map_cons, List.map_nil, List.sum_cons, List.sum_nil, rv_cat, Value.category]; omega) ?_
  refine x_aload_n 0 dX18_init_4 rfl ?_
  refine x_iconst (v := (-1)) dX18_init_5 (by decide) ?_
  obtain ⟨h4, e5⟩ : ∃ y, y = sI h x0 4611 (-1) := ⟨_, rfl⟩
  replace hq := hq h4 e5
  refine x_putI fdX18_9 xty_I1 dX18_init_6 g1 (Or.inl (by rw [g1]; rfl)) xnI rfl e5 ?_
  refine x_aload_n 0 dX18_init_9 rfl ?_
  refine x_iconst (v := (-1)) dX18_init_10 (by decide) ?_
  have t6 : tg h4 x0 = 19 := by rw [e5]; exact g1
  obtain ⟨h7, e8⟩ : ∃ y, y = sI h4 x0 4612 (-1) := ⟨_, rfl⟩
  replace hq := hq h7 e8
  refine x_putI fdX18_15 xty_I1 dX18_init_11 t6 (Or.inl (by rw [t6]; rfl)) xnI rfl e8 ?_
  refine x_aload_n 0 dX18_init_14 rfl ?_
  refine x_iload_n 1 dX18_init_15 rfl ?_
  have t9 : tg h7 x0 = 19 := by rw [e8]; exact t6
  obtain ⟨h10, e11⟩ : ∃ y, y = sI h7 x0 4608 x1 := ⟨_, rfl⟩
  replace hq := hq h10 e11
  refine x_putFI fdX18_18 owX18_init_0 xty_I1 dX18_init_16 t9 (Or.inl (by rw [t9]; rfl)) xnI rfl e11 ?_
  refine x_aload_n 0 dX18_init_19 rfl ?_
  refine x_iload_n 2 dX18_init_20 rfl ?_
  have t12 : tg h10 x0 = 19 := by rw [e11]; exact t9
  obtain ⟨h13, e14⟩ : ∃ y, y = sI h10 x0 4609 x2 := ⟨_, rfl⟩
  replace hq := hq h13 e14
  refine x_putFI fdX18_21 owX18_init_1 xty_I1 dX18_init_21 t12 (Or.inl (by rw [t12]; rfl)) xnI rfl e14 ?_
  exact x_vret rfl dX18_init_24 hq
theorem rX18_init {G : xG} {fr lo : Nat} {x0 : Nat} {x1 : Int32} {x2 : Int32} {h : xH} {Q : Outcome → xH → Prop} (hq : bX18_init G fr lo x0 x1 x2 h Q) : xR G YX18_init fr lo [rv x0, .int x1, .int x2] h Q := by
  show xP _ _ _ _ _ (lv_args 0 _) _ _ _
  rw [show lv_args 0 [rv x0, .int x1, .int x2] = [(0, rv x0), (1, .int x1), (2, .int x2)] from (xla1 (rv_cat _) (xla1 rfl (xla1 rfl xla0)))]
  exact uX18_init hq
