/-! PascalHouse$Field, walked (1) -/
set_option maxRecDepth 100000 in
theorem dX20_init_0 : decode cX20_init 0 = .ok (.aload_n 0, 1) := by decide +kernel
set_option maxRecDepth 100000 in
theorem dX20_init_1 : decode cX20_init 1 = .ok (.invokespecial 1, 3) := by decide +kernel
set_option maxRecDepth 100000 in
theorem dX20_init_4 : decode cX20_init 4 = .ok (.aload_n 0, 1) := by decide +kernel
set_option maxRecDepth 100000 in
theorem dX20_init_5 : decode cX20_init 5 = .ok (.aload_n 1, 1) := by decide +kernel
set_option maxRecDepth 100000 in
theorem dX20_init_6 : decode cX20_init 6 = .ok (.putfield 7, 3) := by decide +kernel
set_option maxRecDepth 100000 in
theorem dX20_init_9 : decode cX20_init 9 = .ok (.aload_n 0, 1) := by decide +kernel
set_option maxRecDepth 100000 in
theorem dX20_init_10 : decode cX20_init 10 = .ok (.aload_n 2, 1) := by decide +kernel
set_option maxRecDepth 100000 in
theorem dX20_init_11 : decode cX20_init 11 = .ok (.putfield 13, 3) := by decide +kernel
set_option maxRecDepth 100000 in
theorem dX20_init_14 : decode cX20_init 14 = .ok (.aload_n 0, 1) := by decide +kernel
set_option maxRecDepth 100000 in
theorem dX20_init_15 : decode cX20_init 15 = .ok (.iload_n 3, 1) := by decide +kernel
set_option maxRecDepth 100000 in
theorem dX20_init_16 : decode cX20_init 16 = .ok (.putfield 17, 3) := by decide +kernel
set_option maxRecDepth 100000 in
theorem dX20_init_19 : decode cX20_init 19 = .ok (.aload_n 0, 1) := by decide +kernel
set_option maxRecDepth 100000 in
theorem dX20_init_20 : decode cX20_init 20 = .ok (.aload 4, 2) := by decide +kernel
set_option maxRecDepth 100000 in
theorem dX20_init_22 : decode cX20_init 22 = .ok (.putfield 21, 3) := by decide +kernel
set_option maxRecDepth 100000 in
theorem dX20_init_25 : decode cX20_init 25 = .ok (.aload_n 0, 1) := by decide +kernel
set_option maxRecDepth 100000 in
theorem dX20_init_26 : decode cX20_init 26 = .ok (.iload 5, 2) := by decide +kernel
set_option maxRecDepth 100000 in
theorem dX20_init_28 : decode cX20_init 28 = .ok (.putfield 25, 3) := by decide +kernel
set_option maxRecDepth 100000 in
theorem dX20_init_31 : decode cX20_init 31 = .ok (.return_, 1) := by decide +kernel
set_option maxRecDepth 100000 in
def bX20_init (G : xG) (fr lo : Nat) (x0 : Nat) (x1 : Nat) (x2 : Nat) (x3 : Int32) (x4 : Nat) (x5 : Int32) (h : xH) (Q : Outcome → xH → Prop) : Prop := tg h x0 = 21 ∧ 1 ≤ fr ∧ 12 ≤ lo ∧ (∀ h4 : xH, h4 = sR h x0 5120 x1 → (∀ h7 : xH, h7 = sR h4 x0 5121 x2 → (∀ h10 : xH, h10 = sI h7 x0 5122 x3 → (∀ h13 : xH, h13 = sR h10 x0 5124 x4 → (∀ h16 : xH, h16 = sI h13 x0 5123 x5 → Q (.returned none) h16)))))
set_option maxRecDepth 100000 in
theorem uX20_init {G : xG} {fr lo : Nat} {x0 : Nat} {x1 : Nat} {x2 : Nat} {x3 : Int32} {x4 : Nat} {x5 : Int32} {h : xH} {Q : Outcome → xH → Prop} (hq : bX20_init G fr lo x0 x1 x2 x3 x4 x5 h Q) : xP G YX20_init fr lo 0 [(0, rv x0), (1, rv x1), (2, rv x2), (3, .int x3), (4, rv x4), (5, .int x5)] [] h Q := by
  unfold bX20_init at hq
  refine x_aload_n 0 dX20_init_0 rfl ?_
  obtain ⟨g1, hq⟩ := hq
  obtain ⟨g2, g3, hq⟩ := hq
  refine x_objInit (by rw [g1]; decide) q2370 q438 q439 dX20_init_1 g2 (by simp only [List.map_cons, List.map_nil, List.sum_cons, List.sum_nil, rv_cat, Value.category]; omega) ?_
  refine x_aload_n 0 dX20_init_4 rfl ?_
  refine x_aload_n 1 dX20_init_5 rfl ?_
  obtain ⟨h4, e5⟩ : ∃ y, y = sR h x0 5120 x1 := ⟨_, rfl⟩
  replace hq := hq h4 e5
  refine x_putFR fdX20_7 owX20_init_0 xty_O dX20_init_6 g1 (Or.inl (by rw [g1]; rfl)) rfl e5 ?_
  refine x_aload_n 0 dX20_init_9 rfl ?_
  refine x_aload_n 2 dX20_init_10 rfl ?_
  have t6 : tg h4 x0 = 21 := by rw [e5]; exact g1
  obtain ⟨h7, e8⟩ : ∃ y, y = sR h4 x0 5121 x2 := ⟨_, rfl⟩
  replace hq := hq h7 e8
  refine x_putFR fdX20_13 owX20_init_1 xty_O dX20_init_11 t6 (Or.inl (by rw [t6]; rfl)) rfl e8 ?_
  refine x_aload_n 0 dX20_init_14 rfl ?_
  refine x_iload_n 3 dX20_init_15 rfl ?_
  have t9 : tg h7 x0 = 21 := by rw [e8]; exact t6
  obtain ⟨h10, e11⟩ : ∃ y, y = sI h7 x0 5122 x3 := ⟨_, rfl⟩
  replace hq := hq h10 e11
  refine x_putFI fdX20_17 owX20_init_2 xty_I1 dX20_init_16 t9 (Or.inl (by rw [t9]; rfl)) xnI rfl e11 ?_
  refine x_aload_n 0 dX20_init_19 rfl ?_
  refine x_aload 4 dX20_init_20 rfl ?_
  have t12 : tg h10 x0 = 21 := by rw [e11]; exact t9
  obtain ⟨h13, e14⟩ : ∃ y, y = sR h10 x0 5124 x4 := ⟨_, rfl⟩
  replace hq := hq h13 e14
  refine x_putFR fdX20_21 owX20_init_4 xty_O dX20_init_22 t12 (Or.inl (by rw [t12]; rfl)) rfl e14 ?_
  refine x_aload_n 0 dX20_init_25 rfl ?_
  refine x_iload 5 dX20_init_26 rfl ?_
  have t15 : tg h13 x0 = 21 := by rw [e14]; exact t12
  obtain ⟨h16, e17⟩ : ∃ y, y = sI h13 x0 5123 x5 := ⟨_, rfl⟩
  replace hq := hq h16 e17
  refine x_putFI fdX20_25 owX20_init_3 xty_I1 dX20_init_28 t15 (Or.inl (by rw [t15]; rfl)) xnI rfl e17 ?_
  exact x_vret rfl dX20_init_31 hq
theorem rX20_init {G : xG} {fr lo : Nat} {x0 : Nat} {x1 : Nat} {x2 : Nat} {x3 : Int32} {x4 : Nat} {x5 : Int32} {h : xH} {Q : Outcome → xH → Prop} (hq : bX20_init G fr lo x0 x1 x2 x3 x4 x5 h Q) : xR G YX20_init fr lo [rv x0, rv x1, rv x2, .int x3, rv x4, .int x5] h Q := by
  show xP _ _ _ _ _ (lv_args 0 _) _ _ _
  rw [show lv_args 0 [rv x0, rv x1, rv x2, .int x3, rv x4, .int x5] = [(0, rv x0), (1, rv x1), (2, rv x2), (3, .int x3), (4, rv x4), (5, .int x5)] from (xla1 (rv_cat _) (xla1 (rv_cat _) (xla1 (rv_cat _) (xla1 rfl (xla1 (rv_cat _) (xla1 rfl xla0))))))]
  exact uX20_init hq
