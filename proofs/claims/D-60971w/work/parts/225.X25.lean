/-! PascalHouseModel$Label, walked (1) -/
set_option maxRecDepth 100000 in
theorem dX25_init_0 : decode cX25_init 0 = .ok (.aload_n 0, 1) := by decide +kernel
set_option maxRecDepth 100000 in
theorem dX25_init_1 : decode cX25_init 1 = .ok (.invokespecial 3, 3) := by decide +kernel
set_option maxRecDepth 100000 in
theorem dX25_init_4 : decode cX25_init 4 = .ok (.aload_n 0, 1) := by decide +kernel
set_option maxRecDepth 100000 in
theorem dX25_init_5 : decode cX25_init 5 = .ok (.iconst (-1), 1) := by decide +kernel
set_option maxRecDepth 100000 in
theorem dX25_init_6 : decode cX25_init 6 = .ok (.putfield 9, 3) := by decide +kernel
set_option maxRecDepth 100000 in
theorem dX25_init_9 : decode cX25_init 9 = .ok (.aload_n 0, 1) := by decide +kernel
set_option maxRecDepth 100000 in
theorem dX25_init_10 : decode cX25_init 10 = .ok (.iload_n 1, 1) := by decide +kernel
set_option maxRecDepth 100000 in
theorem dX25_init_11 : decode cX25_init 11 = .ok (.putfield 15, 3) := by decide +kernel
set_option maxRecDepth 100000 in
theorem dX25_init_14 : decode cX25_init 14 = .ok (.return_, 1) := by decide +kernel
set_option maxRecDepth 100000 in
def bX25_init (G : xG) (fr lo : Nat) (x0 : Nat) (x1 : Int32) (h : xH) (Q : Outcome → xH → Prop) : Prop := tg h x0 = 26 ∧ 1 ≤ fr ∧ 12 ≤ lo ∧ (∀ h4 : xH, h4 = sI h x0 6401 (-1) → (∀ h7 : xH, h7 = sI h4 x0 6400 x1 → Q (.returned none) h7))
set_option maxRecDepth 100000 in
theorem uX25_init {G : xG} {fr lo : Nat} {x0 : Nat} {x1 : Int32} {h : xH} {Q : Outcome → xH → Prop} (hq : bX25_init G fr lo x0 x1 h Q) : xP G YX25_init fr lo 0 [(0, rv x0), (1, .int x1)] [] h Q := by
  unfold bX25_init at hq
  refine x_aload_n 0 dX25_init_0 rfl ?_
  obtain ⟨g1, hq⟩ := hq
  obtain ⟨g2, g3, hq⟩ := hq
  refine x_objInit (by rw [g1]; decide) q4143 q438 q439 dX25_init_1 g2 (by simp only [List.map_cons, List.map_nil, List.sum_cons, List.sum_nil, rv_cat, Value.category]; omega) ?_
  refine x_aload_n 0 dX25_init_4 rfl ?_
  refine x_iconst (v := (-1)) dX25_init_5 (by decide) ?_
  obtain ⟨h4, e5⟩ : ∃ y, y = sI h x0 6401 (-1) := ⟨_, rfl⟩
  replace hq := hq h4 e5
  refine x_putI fdX25_9 xty_I1 dX25_init_6 g1 (Or.inl (by rw [g1]; rfl)) xnI rfl e5 ?_
  refine x_aload_n 0 dX25_init_9 rfl ?_
  refine x_iload_n 1 dX25_init_10 rfl ?_
  have t6 : tg h4 x0 = 26 := by rw [e5]; exact g1
  obtain ⟨h7, e8⟩ : ∃ y, y = sI h4 x0 6400 x1 := ⟨_, rfl⟩
  replace hq := hq h7 e8
  refine x_putFI fdX25_15 owX25_init_0 xty_I1 dX25_init_11 t6 (Or.inl (by rw [t6]; rfl)) xnI rfl e8 ?_
  exact x_vret rfl dX25_init_14 hq
theorem rX25_init {G : xG} {fr lo : Nat} {x0 : Nat} {x1 : Int32} {h : xH} {Q : Outcome → xH → Prop} (hq : bX25_init G fr lo x0 x1 h Q) : xR G YX25_init fr lo [rv x0, .int x1] h Q := by
  show xP _ _ _ _ _ (lv_args 0 _) _ _ _
  rw [show lv_args 0 [rv x0, .int x1] = [(0, rv x0), (1, .int x1)] from (xla1 (rv_cat _) (xla1 rfl xla0))]
  exact uX25_init hq
