/-! PascalHouseModel$Scope, walked (1) -/
set_option maxRecDepth 100000 in
theorem dX24_init_0 : decode cX24_init 0 = .ok (.aload_n 0, 1) := by decide +kernel
set_option maxRecDepth 100000 in
theorem dX24_init_1 : decode cX24_init 1 = .ok (.invokespecial 1, 3) := by decide +kernel
set_option maxRecDepth 100000 in
theorem dX24_init_4 : decode cX24_init 4 = .ok (.aload_n 0, 1) := by decide +kernel
set_option maxRecDepth 100000 in
theorem dX24_init_5 : decode cX24_init 5 = .ok (.new 7, 3) := by decide +kernel
set_option maxRecDepth 100000 in
theorem dX24_init_8 : decode cX24_init 8 = .ok (.dup, 1) := by decide +kernel
set_option maxRecDepth 100000 in
theorem dX24_init_9 : decode cX24_init 9 = .ok (.invokespecial 9, 3) := by decide +kernel
set_option maxRecDepth 100000 in
theorem dX24_init_12 : decode cX24_init 12 = .ok (.putfield 10, 3) := by decide +kernel
set_option maxRecDepth 100000 in
theorem dX24_init_15 : decode cX24_init 15 = .ok (.aload_n 0, 1) := by decide +kernel
set_option maxRecDepth 100000 in
theorem dX24_init_16 : decode cX24_init 16 = .ok (.new 7, 3) := by decide +kernel
set_option maxRecDepth 100000 in
theorem dX24_init_19 : decode cX24_init 19 = .ok (.dup, 1) := by decide +kernel
set_option maxRecDepth 100000 in
theorem dX24_init_20 : decode cX24_init 20 = .ok (.invokespecial 9, 3) := by decide +kernel
set_option maxRecDepth 100000 in
theorem dX24_init_23 : decode cX24_init 23 = .ok (.putfield 16, 3) := by decide +kernel
set_option maxRecDepth 100000 in
theorem dX24_init_26 : decode cX24_init 26 = .ok (.return_, 1) := by decide +kernel
set_option maxRecDepth 100000 in
def bX24_init (G : xG) (fr lo : Nat) (x0 : Nat) (h : xH) (Q : Outcome → xH → Prop) : Prop := tg h x0 = 25 ∧ 1 ≤ fr ∧ 12 ≤ lo ∧ nx h + 1 ≤ xGN G ∧ us h + 3 ≤ xGU G ∧ (∀ (a6 : Nat) (h7 : xH), a6 = nx h + 1 → h7 = nO h 29 3 → xfresh h a6 → 1 ≤ fr ∧ 14 ≤ lo ∧ xRv G YJ2_init_2 (fr - 1) (lo - 14) [rv a6] h7 (fun h14 => xext h7 h14 → (∀ h19 : xH, h19 = sR h14 x0 6144 a6 → nx h19 + 1 ≤ xGN G ∧ us h19 + 3 ≤ xGU G ∧ (∀ (a23 : Nat) (h24 : xH), a23 = nx h19 + 1 → h24 = nO h19 29 3 → xfresh h19 a23 → 1 ≤ fr ∧ 14 ≤ lo ∧ xRv G YJ2_init_2 (fr - 1) (lo - 14) [rv a23] h24 (fun h31 => xext h24 h31 → (∀ h37 : xH, h37 = sR h31 x0 6145 a23 → Q (.returned none) h37)) (fun r h2 => Q (.threw r) h2)))) (fun r h2 => Q (.threw r) h2))
set_option maxRecDepth 100000 in
theorem uX24_init {G : xG} {fr lo : Nat} {x0 : Nat} {h : xH} {Q : Outcome → xH → Prop} (hq : bX24_init G fr lo x0 h Q) : xP G YX24_init fr lo 0 [(0, rv x0)] [] h Q := by
  unfold bX24_init at hq
  refine x_aload_n 0 dX24_init_0 rfl ?_
  obtain ⟨g1, hq⟩ := hq
  obtain ⟨g2, g3, hq⟩ := hq
  refine x_objInit (by rw [g1]; decide) q4077 q438 q439 dX24_init_1 g2 (by simp only [List.map_cons, List.map_nil, List.sum_cons, List.sum_nil, rv_cat, Value.category]; omega) ?_
  refine x_aload_n 0 dX24_init_4 rfl ?_
  obtain ⟨g4, g5, hq⟩ := hq
  obtain ⟨a6, e8⟩ : ∃ y, y = nx h + 1 := ⟨_, rfl⟩
  obtain ⟨h7, e9⟩ : ∃ y, y = nO h 29 3 := ⟨_, rfl⟩
  refine x_new' cdX24_7 dX24_init_5 g4 g5 e8 e9 (fun f10 => ?_)
  replace hq := hq a6 h7 e8 e9 f10
  have t11 : tg h7 a6 = 29 := by rw [e9, e8]; exact tg_nO
  refine x_dup dX24_init_8 (rv_cat _) ?_
  obtain ⟨g12, g13, hq⟩ := hq
  refine x_callI (Yc := YJ2_init_2) (as := []) (st := [rv a6, rv x0]) q4079 miJ2_init_2 (by rw [t11]; decide) rfl dX24_init_9 (xle (xal1 (rv_cat _) xal0) (by decide)) (xfr g12) (xlo (xsw1 (rv_cat _) (xsw1 (rv_cat _) xsw0)) (by decide) g13) (xKv hq (fun h14 hq e16 => ?_) (fun _ _ q _ => q))
  replace hq := hq e16
  have t17 : tg h7 x0 = 25 := by rw [e9]; exact tg_nO_ne e8 f10 g1 (by decide)
  have t18 : tg h14 x0 = 25 := e16.tg t17 (by decide)
  obtain ⟨h19, e20⟩ : ∃ y, y = sR h14 x0 6144 a6 := ⟨_, rfl⟩
  replace hq := hq h19 e20
  refine x_putFR fdX24_10 owX24_init_0 xty_O dX24_init_12 t18 (Or.inl (by rw [t18]; rfl)) rfl e20 ?_
  refine x_aload_n 0 dX24_init_15 rfl ?_
  obtain ⟨g21, g22, hq⟩ := hq
  obtain ⟨a23, e25⟩ : ∃ y, y = nx h19 + 1 := ⟨_, rfl⟩
  obtain ⟨h24, e26⟩ : ∃ y, y = nO h19 29 3 := ⟨_, rfl⟩
  refine x_new' cdX24_7 dX24_init_16 g21 g22 e25 e26 (fun f27 => ?_)
  replace hq := hq a23 h24 e25 e26 f27
  have t28 : tg h24 a23 = 29 := by rw [e26, e25]; exact tg_nO
  refine x_dup dX24_init_19 (rv_cat _) ?_
  obtain ⟨g29, g30, hq⟩ := hq
  refine x_callI (Yc := YJ2_init_2) (as := []) (st := [rv a23, rv x0]) q4079 miJ2_init_2 (by rw [t28]; decide) rfl dX24_init_20 (xle (xal1 (rv_cat _) xal0) (by decide)) (xfr g29) (xlo (xsw1 (rv_cat _) (xsw1 (rv_cat _) xsw0)) (by decide) g30) (xKv hq (fun h31 hq e33 => ?_) (fun _ _ q _ => q))
  replace hq := hq e33
  have t34 : tg h19 x0 = 25 := by rw [e20]; exact t18
  have t35 : tg h24 x0 = 25 := by rw [e26]; exact tg_nO_ne e25 f27 t34 (by decide)
  have t36 : tg h31 x0 = 25 := e33.tg t35 (by decide)
  obtain ⟨h37, e38⟩ : ∃ y, y = sR h31 x0 6145 a23 := ⟨_, rfl⟩
  replace hq := hq h37 e38
  refine x_putFR fdX24_16 owX24_init_1 xty_O dX24_init_23 t36 (Or.inl (by rw [t36]; rfl)) rfl e38 ?_
  exact x_vret rfl dX24_init_26 hq
theorem rX24_init {G : xG} {fr lo : Nat} {x0 : Nat} {h : xH} {Q : Outcome → xH → Prop} (hq : bX24_init G fr lo x0 h Q) : xR G YX24_init fr lo [rv x0] h Q := by
  show xP _ _ _ _ _ (lv_args 0 _) _ _ _
  rw [show lv_args 0 [rv x0] = [(0, rv x0)] from (xla1 (rv_cat _) xla0)]
  exact uX24_init hq
