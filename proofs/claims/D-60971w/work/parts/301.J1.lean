/-! java/util/AbstractList, walked (1) -/
set_option maxRecDepth 100000 in
theorem dJ1_init_0 : decode cJ1_init 0 = .ok (.aload_n 0, 1) := by decide +kernel
set_option maxRecDepth 100000 in
theorem dJ1_init_1 : decode cJ1_init 1 = .ok (.invokespecial 1, 3) := by decide +kernel
set_option maxRecDepth 100000 in
theorem dJ1_init_4 : decode cJ1_init 4 = .ok (.aload_n 0, 1) := by decide +kernel
set_option maxRecDepth 100000 in
theorem dJ1_init_5 : decode cJ1_init 5 = .ok (.iconst 0, 1) := by decide +kernel
set_option maxRecDepth 100000 in
theorem dJ1_init_6 : decode cJ1_init 6 = .ok (.putfield 7, 3) := by decide +kernel
set_option maxRecDepth 100000 in
theorem dJ1_init_9 : decode cJ1_init 9 = .ok (.return_, 1) := by decide +kernel
set_option maxRecDepth 100000 in
def bJ1_init (G : xG) (fr lo : Nat) (x0 : Nat) (h : xH) (Q : Outcome → xH → Prop) : Prop := tg h x0 = 29 ∧ 1 ≤ fr ∧ 12 ≤ lo ∧ xRv G YJ0_init (fr - 1) (lo - 12) [rv x0] h (fun h4 => xext h h4 → (∀ h8 : xH, h8 = sI h4 x0 7168 0 → Q (.returned none) h8)) (fun r h2 => Q (.threw r) h2)
set_option maxRecDepth 100000 in
theorem uJ1_init {G : xG} {fr lo : Nat} {x0 : Nat} {h : xH} {Q : Outcome → xH → Prop} (hq : bJ1_init G fr lo x0 h Q) : xP G YJ1_init fr lo 0 [(0, rv x0)] [] h Q := by
  unfold bJ1_init at hq
  refine x_aload_n 0 dJ1_init_0 rfl ?_
  obtain ⟨g1, hq⟩ := hq
  obtain ⟨g2, g3, hq⟩ := hq
  refine x_callI (Yc := YJ0_init) (as := []) (st := []) q508 miJ0_init (by rw [g1]; decide) rfl dJ1_init_1 (xle (xal1 (rv_cat _) xal0) (by decide)) (xfr g2) (xlo xsw0 (by decide) g3) (xKv hq (fun h4 hq e6 => ?_) (fun _ _ q _ => q))
  replace hq := hq e6
  refine x_aload_n 0 dJ1_init_4 rfl ?_
  refine x_iconst (v := 0) dJ1_init_5 (by decide) ?_
  have t7 : tg h4 x0 = 29 := e6.tg g1 (by decide)
  obtain ⟨h8, e9⟩ : ∃ y, y = sI h4 x0 7168 0 := ⟨_, rfl⟩
  replace hq := hq h8 e9
  refine x_putI fdJ1_7 xty_I1 dJ1_init_6 t7 (Or.inl (by rw [t7]; rfl)) xnI rfl e9 ?_
  exact x_vret rfl dJ1_init_9 hq
theorem rJ1_init {G : xG} {fr lo : Nat} {x0 : Nat} {h : xH} {Q : Outcome → xH → Prop} (hq : bJ1_init G fr lo x0 h Q) : xR G YJ1_init fr lo [rv x0] h Q := by
  show xP _ _ _ _ _ (lv_args 0 _) _ _ _
  rw [show lv_args 0 [rv x0] = [(0, rv x0)] from (xla1 (rv_cat _) xla0)]
  exact uJ1_init hq
