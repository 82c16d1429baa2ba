/-! java/util/AbstractCollection, walked (1) -/
set_option maxRecDepth 100000 in
theorem dJ0_init_0 : decode cJ0_init 0 = .ok (.aload_n 0, 1) := by decide +kernel
set_option maxRecDepth 100000 in
theorem dJ0_init_1 : decode cJ0_init 1 = .ok (.invokespecial 1, 3) := by decide +kernel
set_option maxRecDepth 100000 in
theorem dJ0_init_4 : decode cJ0_init 4 = .ok (.return_, 1) := by decide +kernel
set_option maxRecDepth 100000 in
def bJ0_init (G : xG) (fr lo : Nat) (x0 : Nat) (h : xH) (Q : Outcome → xH → Prop) : Prop := tg h x0 = 29 ∧ 1 ≤ fr ∧ 12 ≤ lo ∧ Q (.returned none) h
set_option maxRecDepth 100000 in
theorem uJ0_init {G : xG} {fr lo : Nat} {x0 : Nat} {h : xH} {Q : Outcome → xH → Prop} (hq : bJ0_init G fr lo x0 h Q) : xP G YJ0_init fr lo 0 [(0, rv x0)] [] h Q := by
  unfold bJ0_init at hq
  refine x_aload_n 0 dJ0_init_0 rfl ?_
  obtain ⟨g1, hq⟩ := hq
  obtain ⟨g2, g3, hq⟩ := hq
  refine x_objInit (by rw [g1]; decide) q511 q438 q439 dJ0_init_1 g2 (by simp only [List.map_cons, List.map_nil, List.sum_cons, List.sum_nil, rv_cat, Value.category]; omega) ?_
  exact x_vret rfl dJ0_init_4 hq
theorem rJ0_init {G : xG} {fr lo : Nat} {x0 : Nat} {h : xH} {Q : Outcome → xH → Prop} (hq : bJ0_init G fr lo x0 h Q) : xR G YJ0_init fr lo [rv x0] h Q := by
  show xP _ _ _ _ _ (lv_args 0 _) _ _ _
  rw [show lv_args 0 [rv x0] = [(0, rv x0)] from (xla1 (rv_cat _) xla0)]
  exact uJ0_init hq
