/-! PascalHouse$Faults, walked (1) -/
set_option maxRecDepth 100000 in
theorem dX1_init_0 : decode cX1_init 0 = .ok (.aload_n 0, 1) := by decide +kernel
set_option maxRecDepth 100000 in
theorem dX1_init_1 : decode cX1_init 1 = .ok (.invokespecial 1, 3) := by decide +kernel
set_option maxRecDepth 100000 in
theorem dX1_init_4 : decode cX1_init 4 = .ok (.return_, 1) := by decide +kernel
set_option maxRecDepth 100000 in
def bX1_init (G : xG) (fr lo : Nat) (x0 : Nat) (h : xH) (Q : Outcome → xH → Prop) : Prop := tg h x0 = 2 ∧ 1 ≤ fr ∧ 12 ≤ lo ∧ Q (.returned none) h
set_option maxRecDepth 100000 in
theorem uX1_init {G : xG} {fr lo : Nat} {x0 : Nat} {h : xH} {Q : Outcome → xH → Prop} (hq : bX1_init G fr lo x0 h Q) : xP G YX1_init fr lo 0 [(0, rv x0)] [] h Q := by
  unfold bX1_init at hq
  refine x_aload_n 0 dX1_init_0 rfl ?_
  obtain ⟨g1, hq⟩ := hq
  obtain ⟨g2, g3, hq⟩ := hq
  refine x_objInit (by rw [g1]; decide) q482 q438 q439 dX1_init_1 g2 (by simp only [List.map_cons, List.map_nil, List.sum_cons, List.sum_nil, rv_cat, Value.category]; omega) ?_
  exact x_vret rfl dX1_init_4 hq
theorem rX1_init {G : xG} {fr lo : Nat} {x0 : Nat} {h : xH} {Q : Outcome → xH → Prop} (hq : bX1_init G fr lo x0 h Q) : xR G YX1_init fr lo [rv x0] h Q := by
  show xP _ _ _ _ _ (lv_args 0 _) _ _ _
  rw [show lv_args 0 [rv x0] = [(0, rv x0)] from (xla1 (rv_cat _) xla0)]
  exact uX1_init hq
set_option maxRecDepth 100000 in
theorem dX1_at_0 : decode cX1_at 0 = .ok (.aload_n 0, 1) := by decide +kernel
set_option maxRecDepth 100000 in
theorem dX1_at_1 : decode cX1_at 1 = .ok (.iload_n 1, 1) := by decide +kernel
set_option maxRecDepth 100000 in
theorem dX1_at_2 : decode cX1_at 2 = .ok (.putfield 7, 3) := by decide +kernel
set_option maxRecDepth 100000 in
theorem dX1_at_5 : decode cX1_at 5 = .ok (.aload_n 0, 1) := by decide +kernel
set_option maxRecDepth 100000 in
theorem dX1_at_6 : decode cX1_at 6 = .ok (.iload_n 2, 1) := by decide +kernel
set_option maxRecDepth 100000 in
theorem dX1_at_7 : decode cX1_at 7 = .ok (.putfield 13, 3) := by decide +kernel
set_option maxRecDepth 100000 in
theorem dX1_at_10 : decode cX1_at 10 = .ok (.new 16, 3) := by decide +kernel
set_option maxRecDepth 100000 in
theorem dX1_at_13 : decode cX1_at 13 = .ok (.dup, 1) := by decide +kernel
set_option maxRecDepth 100000 in
theorem dX1_at_14 : decode cX1_at 14 = .ok (.invokespecial 18, 3) := by decide +kernel
set_option maxRecDepth 100000 in
theorem dX1_at_17 : decode cX1_at 17 = .ok (.areturn, 1) := by decide +kernel
set_option maxRecDepth 100000 in
def bX1_at (G : xG) (fr lo : Nat) (x0 : Nat) (x1 : Int32) (x2 : Int32) (h : xH) (Q : Outcome → xH → Prop) : Prop := tg h x0 = 2 ∧ (∀ h2 : xH, h2 = sI h x0 256 x1 → (∀ h5 : xH, h5 = sI h2 x0 257 x2 → nx h5 + 1 ≤ xGN G ∧ us h5 + 6 ≤ xGU G ∧ 6 ≤ fr ∧ 81 ≤ lo ∧ (∀ (a11 : Nat) (h12 : xH), a11 = nx h5 + 1 → h12 = nO h5 32 6 → xfresh h5 a11 → Q (.returned (some (rv a11))) h12)))
set_option maxRecDepth 100000 in
theorem uX1_at {G : xG} {fr lo : Nat} {x0 : Nat} {x1 : Int32} {x2 : Int32} {h : xH} {Q : Outcome → xH → Prop} (hq : bX1_at G fr lo x0 x1 x2 h Q) : xP G YX1_at fr lo 0 [(0, rv x0), (1, .int x1), (2, .int x2)] [] h Q := by
  unfold bX1_at at hq
  refine x_aload_n 0 dX1_at_0 rfl ?_
  refine x_iload_n 1 dX1_at_1 rfl ?_
  obtain ⟨g1, hq⟩ := hq
  obtain ⟨h2, e3⟩ : ∃ y, y = sI h x0 256 x1 := ⟨_, rfl⟩
  replace hq := hq h2 e3
  refine x_putI fdX1_7 xty_I1 dX1_at_2 g1 (Or.inl (by rw [g1]; rfl)) xnI rfl e3 ?_
  refine x_aload_n 0 dX1_at_5 rfl ?_
  refine x_iload_n 2 dX1_at_6 rfl ?_
  have t4 : tg h2 x0 = 2 := by rw [e3]; exact g1
  obtain ⟨h5, e6⟩ : ∃ y, y = sI h2 x0 257 x2 := ⟨_, rfl⟩
  replace hq := hq h5 e6
  refine x_putI fdX1_13 xty_I1 dX1_at_7 t4 (Or.inl (by rw [t4]; rfl)) xnI rfl e6 ?_
  obtain ⟨g7, g8, g9, g10, hq⟩ := hq
  obtain ⟨a11, e13⟩ : ∃ y, y = nx h5 + 1 := ⟨_, rfl⟩
  obtain ⟨h12, e14⟩ : ∃ y, y = nO h5 32 6 := ⟨_, rfl⟩
  refine x_ise q1499 q1500 q407 iwX1 dX1_at_10 dX1_at_13 dX1_at_14 g7 g8 g9 (by simp only [List.map_cons, List.map_nil, List.sum_cons, List.sum_nil, rv_cat, Value.category]; omega) e13 e14 (fun f15 => ?_)
  replace hq := hq a11 h12 e13 e14 f15
  have t16 : tg h12 a11 = 32 := by rw [e14, e13]; exact tg_nO
  exact x_aret rfl xty_O dX1_at_17 hq
theorem rX1_at {G : xG} {fr lo : Nat} {x0 : Nat} {x1 : Int32} {x2 : Int32} {h : xH} {Q : Outcome → xH → Prop} (hq : bX1_at G fr lo x0 x1 x2 h Q) : xR G YX1_at fr lo [rv x0, .int x1, .int x2] h Q := by
  show xP _ _ _ _ _ (lv_args 0 _) _ _ _
  rw [show lv_args 0 [rv x0, .int x1, .int x2] = [(0, rv x0), (1, .int x1), (2, .int x2)] from (xla1 (rv_cat _) (xla1 rfl (xla1 rfl xla0)))]
  exact uX1_at hq
