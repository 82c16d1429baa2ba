/-! PascalHouse$Scope, walked (1) -/
set_option maxRecDepth 100000 in
theorem dX7_init_0 : decode cX7_init 0 = .ok (.aload_n 0, 1) := by decide +kernel
set_option maxRecDepth 100000 in
theorem dX7_init_1 : decode cX7_init 1 = .ok (.invokespecial 1, 3) := by decide +kernel
set_option maxRecDepth 100000 in
theorem dX7_init_4 : decode cX7_init 4 = .ok (.aload_n 0, 1) := by decide +kernel
set_option maxRecDepth 100000 in
theorem dX7_init_5 : decode cX7_init 5 = .ok (.new 7, 3) := by decide +kernel
set_option maxRecDepth 100000 in
theorem dX7_init_8 : decode cX7_init 8 = .ok (.dup, 1) := by decide +kernel
set_option maxRecDepth 100000 in
theorem dX7_init_9 : decode cX7_init 9 = .ok (.iconst 2, 1) := by decide +kernel
set_option maxRecDepth 100000 in
theorem dX7_init_10 : decode cX7_init 10 = .ok (.invokespecial 9, 3) := by decide +kernel
set_option maxRecDepth 100000 in
theorem dX7_init_13 : decode cX7_init 13 = .ok (.putfield 12, 3) := by decide +kernel
set_option maxRecDepth 100000 in
theorem dX7_init_16 : decode cX7_init 16 = .ok (.aload_n 0, 1) := by decide +kernel
set_option maxRecDepth 100000 in
theorem dX7_init_17 : decode cX7_init 17 = .ok (.aload_n 1, 1) := by decide +kernel
set_option maxRecDepth 100000 in
theorem dX7_init_18 : decode cX7_init 18 = .ok (.putfield 18, 3) := by decide +kernel
set_option maxRecDepth 100000 in
theorem dX7_init_21 : decode cX7_init 21 = .ok (.return_, 1) := by decide +kernel
set_option maxRecDepth 100000 in
def bX7_init (G : xG) (fr lo : Nat) (x0 : Nat) (x1 : Nat) (h : xH) (Q : Outcome → xH → Prop) : Prop := tg h x0 = 8 ∧ 1 ≤ fr ∧ 12 ≤ lo ∧ nx h + 1 ≤ xGN G ∧ us h + 3 ≤ xGU G ∧ (∀ (a6 : Nat) (h7 : xH), a6 = nx h + 1 → h7 = nO h 29 3 → xfresh h a6 → 1 ≤ fr ∧ 15 ≤ lo ∧ xRv G YJ2_init (fr - 1) (lo - 15) [rv a6, .int 2] h7 (fun h14 => xext h7 h14 → (∀ h19 : xH, h19 = sR h14 x0 1792 a6 → (∀ h22 : xH, h22 = sR h19 x0 1793 x1 → Q (.returned none) h22))) (fun r h2 => Q (.threw r) h2))
set_option maxRecDepth 100000 in
theorem uX7_init {G : xG} {fr lo : Nat} {x0 : Nat} {x1 : Nat} {h : xH} {Q : Outcome → xH → Prop} (hq : bX7_init G fr lo x0 x1 h Q) : xP G YX7_init fr lo 0 [(0, rv x0), (1, rv x1)] [] h Q := by
  unfold bX7_init at hq
  refine x_aload_n 0 dX7_init_0 rfl ?_
  obtain ⟨g1, hq⟩ := hq
  obtain ⟨g2, g3, hq⟩ := hq
  refine x_objInit (by rw [g1]; decide) q755 q438 q439 dX7_init_1 g2 (by simp only [List.map_cons, List.map_nil, List.sum_cons, List.sum_nil, rv_cat, Value.category]; omega) ?_
  refine x_aload_n 0 dX7_init_4 rfl ?_
  obtain ⟨g4, g5, hq⟩ := hq
  obtain ⟨a6, e8⟩ : ∃ y, y = nx h + 1 := ⟨_, rfl⟩
  obtain ⟨h7, e9⟩ : ∃ y, y = nO h 29 3 := ⟨_, rfl⟩
  refine x_new' cdX7_7 dX7_init_5 g4 g5 e8 e9 (fun f10 => ?_)
  replace hq := hq a6 h7 e8 e9 f10
  have t11 : tg h7 a6 = 29 := by rw [e9, e8]; exact tg_nO
  refine x_dup dX7_init_8 (rv_cat _) ?_
  refine x_iconst (v := 2) dX7_init_9 (by decide) ?_
  obtain ⟨g12, g13, hq⟩ := hq
  refine x_callI (Yc := YJ2_init) (as := [.int 2]) (st := [rv a6, rv x0]) q757 miJ2_init (by rw [t11]; decide) rfl dX7_init_10 (xle (xal1 (rv_cat _) (xal1 rfl xal0)) (by decide)) (xfr g12) (xlo (xsw1 (rv_cat _) (xsw1 (rv_cat _) xsw0)) (by decide) g13) (xKv hq (fun h14 hq e16 => ?_) (fun _ _ q _ => q))
  replace hq := hq e16
  have t17 : tg h7 x0 = 8 := by rw [e9]; exact tg_nO_ne e8 f10 g1 (by decide)
  have t18 : tg h14 x0 = 8 := e16.tg t17 (by decide)
  obtain ⟨h19, e20⟩ : ∃ y, y = sR h14 x0 1792 a6 := ⟨_, rfl⟩
  replace hq := hq h19 e20
  refine x_putFR fdX7_12 owX7_init_0 xty_O dX7_init_13 t18 (Or.inl (by rw [t18]; rfl)) rfl e20 ?_
  refine x_aload_n 0 dX7_init_16 rfl ?_
  refine x_aload_n 1 dX7_init_17 rfl ?_
  have t21 : tg h19 x0 = 8 := by rw [e20]; exact t18
  obtain ⟨h22, e23⟩ : ∃ y, y = sR h19 x0 1793 x1 := ⟨_, rfl⟩
  replace hq := hq h22 e23
  refine x_putFR fdX7_18 owX7_init_1 xty_O dX7_init_18 t21 (Or.inl (by rw [t21]; rfl)) rfl e23 ?_
  exact x_vret rfl dX7_init_21 hq
theorem rX7_init {G : xG} {fr lo : Nat} {x0 : Nat} {x1 : Nat} {h : xH} {Q : Outcome → xH → Prop} (hq : bX7_init G fr lo x0 x1 h Q) : xR G YX7_init fr lo [rv x0, rv x1] h Q := by
  show xP _ _ _ _ _ (lv_args 0 _) _ _ _
  rw [show lv_args 0 [rv x0, rv x1] = [(0, rv x0), (1, rv x1)] from (xla1 (rv_cat _) (xla1 (rv_cat _) xla0))]
  exact uX7_init hq
set_option maxRecDepth 100000 in
theorem dX7_own_0 : decode cX7_own 0 = .ok (.aload_n 0, 1) := by decide +kernel
set_option maxRecDepth 100000 in
theorem dX7_own_1 : decode cX7_own 1 = .ok (.getfield 12, 3) := by decide +kernel
set_option maxRecDepth 100000 in
theorem dX7_own_4 : decode cX7_own 4 = .ok (.invokevirtual 22, 3) := by decide +kernel
set_option maxRecDepth 100000 in
theorem dX7_own_7 : decode cX7_own 7 = .ok (.iconst 1, 1) := by decide +kernel
set_option maxRecDepth 100000 in
theorem dX7_own_8 : decode cX7_own 8 = .ok (.isub, 1) := by decide +kernel
set_option maxRecDepth 100000 in
theorem dX7_own_9 : decode cX7_own 9 = .ok (.istore_n 2, 1) := by decide +kernel
set_option maxRecDepth 100000 in
theorem dX7_own_10 : decode cX7_own 10 = .ok (.iload_n 2, 1) := by decide +kernel
set_option maxRecDepth 100000 in
theorem dX7_own_11 : decode cX7_own 11 = .ok (.ifCond .lt 42, 3) := by decide +kernel
set_option maxRecDepth 100000 in
theorem dX7_own_14 : decode cX7_own 14 = .ok (.aload_n 0, 1) := by decide +kernel
set_option maxRecDepth 100000 in
theorem dX7_own_15 : decode cX7_own 15 = .ok (.getfield 12, 3) := by decide +kernel
set_option maxRecDepth 100000 in
theorem dX7_own_18 : decode cX7_own 18 = .ok (.iload_n 2, 1) := by decide +kernel
set_option maxRecDepth 100000 in
theorem dX7_own_19 : decode cX7_own 19 = .ok (.invokevirtual 26, 3) := by decide +kernel
set_option maxRecDepth 100000 in
theorem dX7_own_22 : decode cX7_own 22 = .ok (.checkcast 30, 3) := by decide +kernel
set_option maxRecDepth 100000 in
theorem dX7_own_25 : decode cX7_own 25 = .ok (.getfield 32, 3) := by decide +kernel
set_option maxRecDepth 100000 in
theorem dX7_own_28 : decode cX7_own 28 = .ok (.aload_n 1, 1) := by decide +kernel
set_option maxRecDepth 100000 in
theorem dX7_own_29 : decode cX7_own 29 = .ok (.invokevirtual 36, 3) := by decide +kernel
set_option maxRecDepth 100000 in
theorem dX7_own_32 : decode cX7_own 32 = .ok (.ifCond .eq 15, 3) := by decide +kernel
set_option maxRecDepth 100000 in
theorem dX7_own_35 : decode cX7_own 35 = .ok (.aload_n 0, 1) := by decide +kernel
set_option maxRecDepth 100000 in
theorem dX7_own_36 : decode cX7_own 36 = .ok (.getfield 12, 3) := by decide +kernel
set_option maxRecDepth 100000 in
theorem dX7_own_39 : decode cX7_own 39 = .ok (.iload_n 2, 1) := by decide +kernel
set_option maxRecDepth 100000 in
theorem dX7_own_40 : decode cX7_own 40 = .ok (.invokevirtual 26, 3) := by decide +kernel
set_option maxRecDepth 100000 in
theorem dX7_own_43 : decode cX7_own 43 = .ok (.checkcast 30, 3) := by decide +kernel
set_option maxRecDepth 100000 in
theorem dX7_own_46 : decode cX7_own 46 = .ok (.areturn, 1) := by decide +kernel
set_option maxRecDepth 100000 in
theorem dX7_own_47 : decode cX7_own 47 = .ok (.iinc 2 (-1), 3) := by decide +kernel
set_option maxRecDepth 100000 in
theorem dX7_own_50 : decode cX7_own 50 = .ok (.goto (-40), 3) := by decide +kernel
set_option maxRecDepth 100000 in
theorem dX7_own_53 : decode cX7_own 53 = .ok (.aconst_null, 1) := by decide +kernel
set_option maxRecDepth 100000 in
theorem dX7_own_54 : decode cX7_own 54 = .ok (.areturn, 1) := by decide +kernel
def lX7_own_10 (G : xG) (fr lo : Nat) (x0 : Nat) (x1 : Nat) (x2 : Int32) (h : xH) (Q : Outcome → xH → Prop) : Prop := xP G YX7_own fr lo 10 [(0, rv x0), (1, rv x1), (2, .int x2)] [] h Q
set_option maxRecDepth 100000 in
def bX7_own_10 (G : xG) (fr lo : Nat) (x0 : Nat) (x1 : Nat) (x2 : Int32) (h : xH) (Q : Outcome → xH → Prop) : Prop := ((x2 < 0 → Q (.returned (some (rv 0))) h) ∧ (¬ x2 < 0 → tg h x0 = 8 ∧ tg h (fR h x0 1792) = 29 ∧ 1 ≤ fr ∧ 13 ≤ lo ∧ xRr G YJ2_get (fr - 1) (lo - 13) [rv (fR h x0 1792), .int x2] h (fun x7 h6 => xext h h6 → tg h6 x7 = 9 ∧ tg h6 (fR h6 x7 2049) = 31 ∧ 1 ≤ fr ∧ 14 ≤ lo ∧ xRi G YJ5_equals (fr - 1) (lo - 14) [rv (fR h6 x7 2049), rv x1] h6 (fun x14 h13 => xext h6 h13 → ((x14 = 0 → lX7_own_10 G fr lo x0 x1 (x2 + (-1)) h13 Q) ∧ (¬ x14 = 0 → tg h13 (fR h13 x0 1792) = 29 ∧ 1 ≤ fr ∧ 13 ≤ lo ∧ xRr G YJ2_get (fr - 1) (lo - 13) [rv (fR h13 x0 1792), .int x2] h13 (fun x23 h22 => xext h13 h22 → tg h22 x23 = 9 ∧ Q (.returned (some (rv x23))) h22) (fun r h2 => Q (.threw r) h2)))) (fun r h2 => Q (.threw r) h2)) (fun r h2 => Q (.threw r) h2)))
set_option maxRecDepth 100000 in
theorem uX7_own_10 {G : xG} {fr lo : Nat} {x0 : Nat} {x1 : Nat} {x2 : Int32} {h : xH} {Q : Outcome → xH → Prop} (hq : bX7_own_10 G fr lo x0 x1 x2 h Q) : xP G YX7_own fr lo 10 [(0, rv x0), (1, rv x1), (2, .int x2)] [] h Q := by
  unfold bX7_own_10 at hq
  refine x_iload_n 2 dX7_own_10 rfl ?_
  refine x_if_lt (tgt := 53) dX7_own_11 (by decide) (fun c1 => ?_) (fun c1 => ?_)
  · replace hq := hq.1 c1
    refine x_null dX7_own_53 ?_
    exact x_aret rfl xty_O dX7_own_54 hq
  · replace hq := hq.2 c1
    refine x_aload_n 0 dX7_own_14 rfl ?_
    obtain ⟨g2, hq⟩ := hq
    refine x_get (v := rv (fR h x0 1792)) fdX7_12 dX7_own_15 g2 rfl ?_
    refine x_iload_n 2 dX7_own_18 rfl ?_
    obtain ⟨g3, hq⟩ := hq
    obtain ⟨g4, g5, hq⟩ := hq
    refine x_callV (Yc := YJ2_get) (as := [.int x2]) (st := []) q2115 mvJ2_get g3 rfl dX7_own_19 (xle (xal1 (rv_cat _) (xal1 rfl xal0)) (by decide)) (xfr g4) (xlo xsw0 (by decide) g5) (xKr hq (fun x7 h6 hq e8 => ?_) (fun _ _ q _ => q))
    replace hq := hq e8
    obtain ⟨g9, hq⟩ := hq
    refine x_cast (ci := 8) (by decide) rfl q2127 g9 dX7_own_22 ?_
    refine x_getN (v := rv (fR h6 x7 2049)) gfX7_32 dX7_own_25 g9 rfl ?_
    refine x_aload_n 1 dX7_own_28 rfl ?_
    obtain ⟨g10, hq⟩ := hq
    obtain ⟨g11, g12, hq⟩ := hq
    refine x_callV (Yc := YJ5_equals) (as := [rv x1]) (st := []) q2128 mvJ5_equals g10 rfl dX7_own_29 (xle (xal1 (rv_cat _) (xal1 (rv_cat _) xal0)) (by decide)) (xfr g11) (xlo xsw0 (by decide) g12) (xKi hq (fun x14 h13 hq e15 => ?_) (fun _ _ q _ => q))
    replace hq := hq e15
    refine x_if_eq (tgt := 47) dX7_own_32 (by decide) (fun c16 => ?_) (fun c16 => ?_)
    · replace hq := hq.1 c16
      refine x_iinc (lv' := [(2, .int (x2 + (-1))), (0, rv x0), (1, rv x1)]) 2 dX7_own_47 rfl (by decide) (by first | rfl | (simp [rv_cat, Value.category]; done) | (simp [rv_cat, Value.category]; decide)) ?_
      refine x_goto (tgt := 10) dX7_own_50 (by decide) ?_
      refine xP.pick (lv' := [(0, rv x0), (1, rv x1), (2, .int (x2 + (-1)))]) [1, 2, 0] rfl ?_
      exact hq
    · replace hq := hq.2 c16
      refine x_aload_n 0 dX7_own_35 rfl ?_
      have t17 : tg h6 x0 = 8 := e8.tg g2 (by decide)
      have t18 : tg h13 x0 = 8 := e15.tg t17 (by decide)
      refine x_get (v := rv (fR h13 x0 1792)) fdX7_12 dX7_own_36 t18 rfl ?_
      refine x_iload_n 2 dX7_own_39 rfl ?_
      obtain ⟨g19, hq⟩ := hq
      obtain ⟨g20, g21, hq⟩ := hq
      refine x_callV (Yc := YJ2_get) (as := [.int x2]) (st := []) q2115 mvJ2_get g19 rfl dX7_own_40 (xle (xal1 (rv_cat _) (xal1 rfl xal0)) (by decide)) (xfr g20) (xlo xsw0 (by decide) g21) (xKr hq (fun x23 h22 hq e24 => ?_) (fun _ _ q _ => q))
      replace hq := hq e24
      obtain ⟨g25, hq⟩ := hq
      refine x_cast (ci := 8) (by decide) rfl q2127 g25 dX7_own_43 ?_
      exact x_aret rfl xty_O dX7_own_46 hq
set_option maxRecDepth 100000 in
def bX7_own (G : xG) (fr lo : Nat) (x0 : Nat) (x1 : Nat) (h : xH) (Q : Outcome → xH → Prop) : Prop := tg h x0 = 8 ∧ tg h (fR h x0 1792) = 29 ∧ 1 ≤ fr ∧ 12 ≤ lo ∧ xRi G YJ2_size (fr - 1) (lo - 12) [rv (fR h x0 1792)] h (fun x6 h5 => xext h h5 → lX7_own_10 G fr lo x0 x1 (x6 - 1) h5 Q) (fun r h2 => Q (.threw r) h2)
set_option maxRecDepth 100000 in
theorem uX7_own {G : xG} {fr lo : Nat} {x0 : Nat} {x1 : Nat} {h : xH} {Q : Outcome → xH → Prop} (hq : bX7_own G fr lo x0 x1 h Q) : xP G YX7_own fr lo 0 [(0, rv x0), (1, rv x1)] [] h Q := by
  unfold bX7_own at hq
  refine x_aload_n 0 dX7_own_0 rfl ?_
  obtain ⟨g1, hq⟩ := hq
  refine x_get (v := rv (fR h x0 1792)) fdX7_12 dX7_own_1 g1 rfl ?_
  obtain ⟨g2, hq⟩ := hq
  obtain ⟨g3, g4, hq⟩ := hq
  refine x_callV (Yc := YJ2_size) (as := []) (st := []) q2111 mvJ2_size g2 rfl dX7_own_4 (xle (xal1 (rv_cat _) xal0) (by decide)) (xfr g3) (xlo xsw0 (by decide) g4) (xKi hq (fun x6 h5 hq e7 => ?_) (fun _ _ q _ => q))
  replace hq := hq e7
  refine x_iconst (v := 1) dX7_own_7 (by decide) ?_
  refine x_isub dX7_own_8 ?_
  refine x_istore_n (lv' := [(2, .int (x6 - 1)), (0, rv x0), (1, rv x1)]) dX7_own_9 (by decide) (by first | rfl | (simp [rv_cat, Value.category]; done) | (simp [rv_cat, Value.category]; decide)) ?_
  refine xP.pick (lv' := [(0, rv x0), (1, rv x1), (2, .int (x6 - 1))]) [1, 2, 0] rfl ?_
  exact hq
theorem rX7_own {G : xG} {fr lo : Nat} {x0 : Nat} {x1 : Nat} {h : xH} {Q : Outcome → xH → Prop} (hq : bX7_own G fr lo x0 x1 h Q) : xR G YX7_own fr lo [rv x0, rv x1] h Q := by
  show xP _ _ _ _ _ (lv_args 0 _) _ _ _
  rw [show lv_args 0 [rv x0, rv x1] = [(0, rv x0), (1, rv x1)] from (xla1 (rv_cat _) (xla1 (rv_cat _) xla0))]
  exact uX7_own hq
