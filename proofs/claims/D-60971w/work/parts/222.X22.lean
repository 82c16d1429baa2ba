/-! PascalHouse$Leap, walked (1) -/
set_option maxRecDepth 100000 in
theorem dX22_init_0 : decode cX22_init 0 = .ok (.aload_n 0, 1) := by decide +kernel
set_option maxRecDepth 100000 in
theorem dX22_init_1 : decode cX22_init 1 = .ok (.invokespecial 1, 3) := by decide +kernel
set_option maxRecDepth 100000 in
theorem dX22_init_4 : decode cX22_init 4 = .ok (.aload_n 0, 1) := by decide +kernel
set_option maxRecDepth 100000 in
theorem dX22_init_5 : decode cX22_init 5 = .ok (.aload_n 1, 1) := by decide +kernel
set_option maxRecDepth 100000 in
theorem dX22_init_6 : decode cX22_init 6 = .ok (.putfield 7, 3) := by decide +kernel
set_option maxRecDepth 100000 in
theorem dX22_init_9 : decode cX22_init 9 = .ok (.aload_n 0, 1) := by decide +kernel
set_option maxRecDepth 100000 in
theorem dX22_init_10 : decode cX22_init 10 = .ok (.iload_n 2, 1) := by decide +kernel
set_option maxRecDepth 100000 in
theorem dX22_init_11 : decode cX22_init 11 = .ok (.putfield 13, 3) := by decide +kernel
set_option maxRecDepth 100000 in
theorem dX22_init_14 : decode cX22_init 14 = .ok (.aload_n 0, 1) := by decide +kernel
set_option maxRecDepth 100000 in
theorem dX22_init_15 : decode cX22_init 15 = .ok (.iload_n 3, 1) := by decide +kernel
set_option maxRecDepth 100000 in
theorem dX22_init_16 : decode cX22_init 16 = .ok (.putfield 17, 3) := by decide +kernel
set_option maxRecDepth 100000 in
theorem dX22_init_19 : decode cX22_init 19 = .ok (.aload_n 0, 1) := by decide +kernel
set_option maxRecDepth 100000 in
theorem dX22_init_20 : decode cX22_init 20 = .ok (.aload 4, 2) := by decide +kernel
set_option maxRecDepth 100000 in
theorem dX22_init_22 : decode cX22_init 22 = .ok (.putfield 21, 3) := by decide +kernel
set_option maxRecDepth 100000 in
theorem dX22_init_25 : decode cX22_init 25 = .ok (.aload_n 0, 1) := by decide +kernel
set_option maxRecDepth 100000 in
theorem dX22_init_26 : decode cX22_init 26 = .ok (.aload 5, 2) := by decide +kernel
set_option maxRecDepth 100000 in
theorem dX22_init_28 : decode cX22_init 28 = .ok (.putfield 25, 3) := by decide +kernel
set_option maxRecDepth 100000 in
theorem dX22_init_31 : decode cX22_init 31 = .ok (.return_, 1) := by decide +kernel
set_option maxRecDepth 100000 in
def bX22_init (G : xG) (fr lo : Nat) (x0 : Nat) (x1 : Nat) (x2 : Int32) (x3 : Int32) (x4 : Nat) (x5 : Nat) (h : xH) (Q : Outcome → xH → Prop) : Prop := tg h x0 = 23 ∧ 1 ≤ fr ∧ 12 ≤ lo ∧ (∀ h4 : xH, h4 = sR h x0 5632 x1 → (∀ h7 : xH, h7 = sI h4 x0 5633 x2 → xbz x3 ∧ (∀ h11 : xH, h11 = sI h7 x0 5634 x3 → (∀ h14 : xH, h14 = sR h11 x0 5635 x4 → (∀ h17 : xH, h17 = sR h14 x0 5636 x5 → Q (.returned none) h17)))))
set_option maxRecDepth 100000 in
theorem uX22_init {G : xG} {fr lo : Nat} {x0 : Nat} {x1 : Nat} {x2 : Int32} {x3 : Int32} {x4 : Nat} {x5 : Nat} {h : xH} {Q : Outcome → xH → Prop} (hq : bX22_init G fr lo x0 x1 x2 x3 x4 x5 h Q) : xP G YX22_init fr lo 0 [(0, rv x0), (1, rv x1), (2, .int x2), (3, .int x3), (4, rv x4), (5, rv x5)] [] h Q := by
  unfold bX22_init at hq
  refine x_aload_n 0 dX22_init_0 rfl ?_
  obtain ⟨g1, hq⟩ := hq
  obtain ⟨g2, g3, hq⟩ := hq
  refine x_objInit (by rw [g1]; decide) q2740 q438 q439 dX22_init_1 g2 (by simp only [List.map_cons, List.map_nil, List.sum_cons, List.sum_nil, rv_cat, Value.category]; omega) ?_
  refine x_aload_n 0 dX22_init_4 rfl ?_
  refine x_aload_n 1 dX22_init_5 rfl ?_
  obtain ⟨h4, e5⟩ : ∃ y, y = sR h x0 5632 x1 := ⟨_, rfl⟩
  replace hq := hq h4 e5
  refine x_putFR fdX22_7 owX22_init_0 xty_O dX22_init_6 g1 (Or.inl (by rw [g1]; rfl)) rfl e5 ?_
  refine x_aload_n 0 dX22_init_9 rfl ?_
  refine x_iload_n 2 dX22_init_10 rfl ?_
  have t6 : tg h4 x0 = 23 := by rw [e5]; exact g1
  obtain ⟨h7, e8⟩ : ∃ y, y = sI h4 x0 5633 x2 := ⟨_, rfl⟩
  replace hq := hq h7 e8
  refine x_putFI fdX22_13 owX22_init_1 xty_I1 dX22_init_11 t6 (Or.inl (by rw [t6]; rfl)) xnI rfl e8 ?_
  refine x_aload_n 0 dX22_init_14 rfl ?_
  refine x_iload_n 3 dX22_init_15 rfl ?_
  have t9 : tg h7 x0 = 23 := by rw [e8]; exact t6
  obtain ⟨g10, hq⟩ := hq
  obtain ⟨h11, e12⟩ : ∃ y, y = sI h7 x0 5634 x3 := ⟨_, rfl⟩
  replace hq := hq h11 e12
  refine x_putFI fdX22_17 owX22_init_2 xty_Z1 dX22_init_16 t9 (Or.inl (by rw [t9]; rfl)) (xnB g10) rfl e12 ?_
  refine x_aload_n 0 dX22_init_19 rfl ?_
  refine x_aload 4 dX22_init_20 rfl ?_
  have t13 : tg h11 x0 = 23 := by rw [e12]; exact t9
  obtain ⟨h14, e15⟩ : ∃ y, y = sR h11 x0 5635 x4 := ⟨_, rfl⟩
  replace hq := hq h14 e15
  refine x_putFR fdX22_21 owX22_init_3 xty_A dX22_init_22 t13 (Or.inl (by rw [t13]; rfl)) rfl e15 ?_
  refine x_aload_n 0 dX22_init_25 rfl ?_
  refine x_aload 5 dX22_init_26 rfl ?_
  have t16 : tg h14 x0 = 23 := by rw [e15]; exact t13
  obtain ⟨h17, e18⟩ : ∃ y, y = sR h14 x0 5636 x5 := ⟨_, rfl⟩
  replace hq := hq h17 e18
  refine x_putFR fdX22_25 owX22_init_4 xty_A dX22_init_28 t16 (Or.inl (by rw [t16]; rfl)) rfl e18 ?_
  exact x_vret rfl dX22_init_31 hq
theorem rX22_init {G : xG} {fr lo : Nat} {x0 : Nat} {x1 : Nat} {x2 : Int32} {x3 : Int32} {x4 : Nat} {x5 : Nat} {h : xH} {Q : Outcome → xH → Prop} (hq : bX22_init G fr lo x0 x1 x2 x3 x4 x5 h Q) : xR G YX22_init fr lo [rv x0, rv x1, .int x2, .int x3, rv x4, rv x5] h Q := by
  show xP _ _ _ _ _ (lv_args 0 _) _ _ _
  rw [show lv_args 0 [rv x0, rv x1, .int x2, .int x3, rv x4, rv x5] = [(0, rv x0), (1, rv x1), (2, .int x2), (3, .int x3), (4, rv x4), (5, rv x5)] from (xla1 (rv_cat _) (xla1 (rv_cat _) (xla1 rfl (xla1 rfl (xla1 (rv_cat _) (xla1 (rv_cat _) xla0))))))]
  exact uX22_init hq
