/-! PascalHouse$Parser, walked (2) -/
set_option maxRecDepth 100000 in
theorem dX3_term_0 : decode cX3_term 0 = .ok (.aload_n 0, 1) := by decide +kernel
set_option maxRecDepth 100000 in
theorem dX3_term_1 : decode cX3_term 1 = .ok (.invokevirtual 337, 3) := by decide +kernel
set_option maxRecDepth 100000 in
theorem dX3_term_4 : decode cX3_term 4 = .ok (.astore_n 1, 1) := by decide +kernel
set_option maxRecDepth 100000 in
theorem dX3_term_5 : decode cX3_term 5 = .ok (.aload_n 0, 1) := by decide +kernel
set_option maxRecDepth 100000 in
theorem dX3_term_6 : decode cX3_term 6 = .ok (.invokevirtual 340, 3) := by decide +kernel
set_option maxRecDepth 100000 in
theorem dX3_term_9 : decode cX3_term 9 = .ok (.ifCond .ne 5, 3) := by decide +kernel
set_option maxRecDepth 100000 in
theorem dX3_term_12 : decode cX3_term 12 = .ok (.aload_n 1, 1) := by decide +kernel
set_option maxRecDepth 100000 in
theorem dX3_term_13 : decode cX3_term 13 = .ok (.areturn, 1) := by decide +kernel
set_option maxRecDepth 100000 in
theorem dX3_term_14 : decode cX3_term 14 = .ok (.new 71, 3) := by decide +kernel
set_option maxRecDepth 100000 in
theorem dX3_term_17 : decode cX3_term 17 = .ok (.dup, 1) := by decide +kernel
set_option maxRecDepth 100000 in
theorem dX3_term_18 : decode cX3_term 18 = .ok (.bipush 62, 2) := by decide +kernel
set_option maxRecDepth 100000 in
theorem dX3_term_20 : decode cX3_term 20 = .ok (.aload_n 0, 1) := by decide +kernel
set_option maxRecDepth 100000 in
theorem dX3_term_21 : decode cX3_term 21 = .ok (.getfield 25, 3) := by decide +kernel
set_option maxRecDepth 100000 in
theorem dX3_term_24 : decode cX3_term 24 = .ok (.invokespecial 77, 3) := by decide +kernel
set_option maxRecDepth 100000 in
theorem dX3_term_27 : decode cX3_term 27 = .ok (.aload_n 1, 1) := by decide +kernel
set_option maxRecDepth 100000 in
theorem dX3_term_28 : decode cX3_term 28 = .ok (.invokevirtual 84, 3) := by decide +kernel
set_option maxRecDepth 100000 in
theorem dX3_term_31 : decode cX3_term 31 = .ok (.astore_n 2, 1) := by decide +kernel
set_option maxRecDepth 100000 in
theorem dX3_term_32 : decode cX3_term 32 = .ok (.aload_n 0, 1) := by decide +kernel
set_option maxRecDepth 100000 in
theorem dX3_term_33 : decode cX3_term 33 = .ok (.invokevirtual 340, 3) := by decide +kernel
set_option maxRecDepth 100000 in
theorem dX3_term_36 : decode cX3_term 36 = .ok (.ifCond .eq 33, 3) := by decide +kernel
set_option maxRecDepth 100000 in
theorem dX3_term_39 : decode cX3_term 39 = .ok (.aload_n 0, 1) := by decide +kernel
set_option maxRecDepth 100000 in
theorem dX3_term_40 : decode cX3_term 40 = .ok (.invokevirtual 65, 3) := by decide +kernel
set_option maxRecDepth 100000 in
theorem dX3_term_43 : decode cX3_term 43 = .ok (.astore_n 3, 1) := by decide +kernel
set_option maxRecDepth 100000 in
theorem dX3_term_44 : decode cX3_term 44 = .ok (.aload_n 2, 1) := by decide +kernel
set_option maxRecDepth 100000 in
theorem dX3_term_45 : decode cX3_term 45 = .ok (.new 71, 3) := by decide +kernel
set_option maxRecDepth 100000 in
theorem dX3_term_48 : decode cX3_term 48 = .ok (.dup, 1) := by decide +kernel
set_option maxRecDepth 100000 in
theorem dX3_term_49 : decode cX3_term 49 = .ok (.bipush 64, 2) := by decide +kernel
set_option maxRecDepth 100000 in
theorem dX3_term_51 : decode cX3_term 51 = .ok (.aload_n 3, 1) := by decide +kernel
set_option maxRecDepth 100000 in
theorem dX3_term_52 : decode cX3_term 52 = .ok (.invokespecial 77, 3) := by decide +kernel
set_option maxRecDepth 100000 in
theorem dX3_term_55 : decode cX3_term 55 = .ok (.aload_n 0, 1) := by decide +kernel
set_option maxRecDepth 100000 in
theorem dX3_term_56 : decode cX3_term 56 = .ok (.invokevirtual 337, 3) := by decide +kernel
set_option maxRecDepth 100000 in
theorem dX3_term_59 : decode cX3_term 59 = .ok (.invokevirtual 84, 3) := by decide +kernel
set_option maxRecDepth 100000 in
theorem dX3_term_62 : decode cX3_term 62 = .ok (.invokevirtual 84, 3) := by decide +kernel
set_option maxRecDepth 100000 in
theorem dX3_term_65 : decode cX3_term 65 = .ok (.pop, 1) := by decide +kernel
set_option maxRecDepth 100000 in
theorem dX3_term_66 : decode cX3_term 66 = .ok (.goto (-34), 3) := by decide +kernel
set_option maxRecDepth 100000 in
theorem dX3_term_69 : decode cX3_term 69 = .ok (.aload_n 2, 1) := by decide +kernel
set_option maxRecDepth 100000 in
theorem dX3_term_70 : decode cX3_term 70 = .ok (.areturn, 1) := by decide +kernel
def lX3_term_32 (G : xG) (fr lo : Nat) (x0 : Nat) (x2 : Nat) (h : xH) (Q : Outcome → xH → Prop) : Prop := xP G YX3_term fr lo 32 [(0, rv x0), (2, rv x2)] [] h Q
set_option maxRecDepth 100000 in
def bX3_term_32 (G : xG) (fr lo : Nat) (x0 : Nat) (x2 : Nat) (h : xH) (Q : Outcome → xH → Prop) : Prop := tg h x0 = 4 ∧ 1 ≤ fr ∧ 12 ≤ lo ∧ xRi G YX3_isTimes (fr - 1) (lo - 12) [rv x0] h (fun x5 h4 => xext h h4 → ((x5 = 0 → Q (.returned (some (rv x2))) h4) ∧ (¬ x5 = 0 → 1 ≤ fr ∧ 13 ≤ lo ∧ xRr G YX3_take (fr - 1) (lo - 13) [rv x0] h4 (fun x12 h11 => xext h4 h11 → nx h11 + 1 ≤ xGN G ∧ us h11 + 6 ≤ xGU G ∧ (∀ (a16 : Nat) (h17 : xH), a16 = nx h11 + 1 → h17 = nO h11 16 6 → xfresh h11 a16 → 1 ≤ fr ∧ 16 ≤ lo ∧ xRv G YX15_init (fr - 1) (lo - 16) [rv a16, .int 64, rv x12] h17 (fun h24 => xext h17 h24 → 1 ≤ fr ∧ 15 ≤ lo ∧ xRr G YX3_factor (fr - 1) (lo - 15) [rv x0] h24 (fun x33 h32 => xext h24 h32 → 1 ≤ fr ∧ 14 ≤ lo ∧ xRr G YX15_add (fr - 1) (lo - 14) [rv a16, rv x33] h32 (fun x40 h39 => xext h32 h39 → tg h39 x2 = 16 ∧ 1 ≤ fr ∧ 13 ≤ lo ∧ xRr G YX15_add (fr - 1) (lo - 13) [rv x2, rv x40] h39 (fun x46 h45 => xext h39 h45 → lX3_term_32 G fr lo x0 x2 h45 Q) (fun r h2 => Q (.threw r) h2)) (fun r h2 => Q (.threw r) h2)) (fun r h2 => Q (.threw r) h2)) (fun r h2 => Q (.threw r) h2))) (fun r h2 => Q (.threw r) h2)))) (fun r h2 => Q (.threw r) h2)
set_option maxRecDepth 100000 in
theorem uX3_term_32 {G : xG} {fr lo : Nat} {x0 : Nat} {x2 : Nat} {h : xH} {Q : Outcome → xH → Prop} (hq : bX3_term_32 G fr lo x0 x2 h Q) : xP G YX3_term fr lo 32 [(0, rv x0), (2, rv x2)] [] h Q := by
  unfold bX3_term_32 at hq
  refine x_aload_n 0 dX3_term_32 rfl ?_
  obtain ⟨g1, hq⟩ := hq
  obtain ⟨g2, g3, hq⟩ := hq
  refine x_callV (Yc := YX3_isTimes) (as := []) (st := []) q1954 mvX3_isTimes g1 rfl dX3_term_33 (xle (xal1 (rv_cat _) xal0) (by decide)) (xfr g2) (xlo xsw0 (by decide) g3) (xKi hq (fun x5 h4 hq e6 => ?_) (fun _ _ q _ => q))
  replace hq := hq e6
  refine x_if_eq (tgt := 69) dX3_term_36 (by decide) (fun c7 => ?_) (fun c7 => ?_)
  · replace hq := hq.1 c7
    refine x_aload_n 1 dX3_term_69 rfl ?_
    exact x_aret rfl xty_O dX3_term_70 hq
  · replace hq := hq.2 c7
    refine x_aload_n 0 dX3_term_39 rfl ?_
    have t8 : tg h4 x0 = 4 := e6.tg g1 (by decide)
    obtain ⟨g9, g10, hq⟩ := hq
    refine x_callV (Yc := YX3_take) (as := []) (st := []) q1738 mvX3_take t8 rfl dX3_term_40 (xle (xal1 (rv_cat _) xal0) (by decide)) (xfr g9) (xlo xsw0 (by decide) g10) (xKr hq (fun x12 h11 hq e13 => ?_) (fun _ _ q _ => q))
    replace hq := hq e13
    refine x_astore_n (lv' := [(3, rv x12), (0, rv x0), (2, rv x2)]) dX3_term_43 (by decide) (by first | rfl | (simp [rv_cat, Value.category]; done) | (simp [rv_cat, Value.category]; decide)) ?_
    refine x_aload_n 2 dX3_term_44 rfl ?_
    obtain ⟨g14, g15, hq⟩ := hq
    obtain ⟨a16, e18⟩ : ∃ y, y = nx h11 + 1 := ⟨_, rfl⟩
    obtain ⟨h17, e19⟩ : ∃ y, y = nO h11 16 6 := ⟨_, rfl⟩
    refine x_new' cdX3_71 dX3_term_45 g14 g15 e18 e19 (fun f20 => ?_)
    replace hq := hq a16 h17 e18 e19 f20
    have t21 : tg h17 a16 = 16 := by rw [e19, e18]; exact tg_nO
    refine x_dup dX3_term_48 (rv_cat _) ?_
    refine x_bipush (v := 64) dX3_term_49 (by decide) ?_
    refine x_aload_n 0 dX3_term_51 rfl ?_
    obtain ⟨g22, g23, hq⟩ := hq
    refine x_callI (Yc := YX15_init) (as := [.int 64, rv x12]) (st := [rv a16, rv x2]) q1749 miX15_init (by rw [t21]; decide) rfl dX3_term_52 (xle (xal1 (rv_cat _) (xal1 rfl (xal1 (rv_cat _) xal0))) (by decide)) (xfr g22) (xlo (xsw1 (rv_cat _) (xsw1 (rv_cat _) xsw0)) (by decide) g23) (xKv hq (fun h24 hq e26 => ?_) (fun _ _ q _ => q))
    replace hq := hq e26
    refine x_aload_n 1 dX3_term_55 rfl ?_
    have t27 : tg h11 x0 = 4 := e13.tg t8 (by decide)
    have t28 : tg h17 x0 = 4 := by rw [e19]; exact tg_nO_ne e18 f20 t27 (by decide)
    have t29 : tg h24 x0 = 4 := e26.tg t28 (by decide)
    obtain ⟨g30, g31, hq⟩ := hq
    refine x_callV (Yc := YX3_factor) (as := []) (st := [rv a16, rv x2]) q1940 mvX3_factor t29 rfl dX3_term_56 (xle (xal1 (rv_cat _) xal0) (by decide)) (xfr g30) (xlo (xsw1 (rv_cat _) (xsw1 (rv_cat _) xsw0)) (by decide) g31) (xKr hq (fun x33 h32 hq e34 => ?_) (fun _ _ q _ => q))
    replace hq := hq e34
    have t35 : tg h24 a16 = 16 := e26.tg t21 (by decide)
    have t36 : tg h32 a16 = 16 := e34.tg t35 (by decide)
    obtain ⟨g37, g38, hq⟩ := hq
    refine x_callV (Yc := YX15_add) (as := [rv x33]) (st := [rv x2]) q1795 mvX15_add t36 rfl dX3_term_59 (xle (xal1 (rv_cat _) (xal1 (rv_cat _) xal0)) (by decide)) (xfr g37) (xlo (xsw1 (rv_cat _) xsw0) (by decide) g38) (xKr hq (fun x40 h39 hq e41 => ?_) (fun _ _ q _ => q))
    replace hq := hq e41
    obtain ⟨g42, hq⟩ := hq
    obtain ⟨g43, g44, hq⟩ := hq
    refine x_callV (Yc := YX15_add) (as := [rv x40]) (st := []) q1795 mvX15_add g42 rfl dX3_term_62 (xle (xal1 (rv_cat _) (xal1 (rv_cat _) xal0)) (by decide)) (xfr g43) (xlo xsw0 (by decide) g44) (xKr hq (fun x46 h45 hq e47 => ?_) (fun _ _ q _ => q))
    replace hq := hq e47
    refine x_pop dX3_term_65 (rv_cat _) ?_
    refine x_goto (tgt := 32) dX3_term_66 (by decide) ?_
    refine xP.pick (lv' := [(0, rv x0), (2, rv x2)]) [1, 2] rfl ?_
    exact hq
set_option maxRecDepth 100000 in
def bX3_term (G : xG) (fr lo : Nat) (x0 : Nat) (h : xH) (Q : Outcome → xH → Prop) : Prop := tg h x0 = 4 ∧ 1 ≤ fr ∧ 13 ≤ lo ∧ xRr G YX3_factor (fr - 1) (lo - 13) [rv x0] h (fun x5 h4 => xext h h4 → 1 ≤ fr ∧ 12 ≤ lo ∧ xRi G YX3_isTimes (fr - 1) (lo - 12) [rv x0] h4 (fun x11 h10 => xext h4 h10 → ((¬ x11 = 0 → nx h10 + 1 ≤ xGN G ∧ us h10 + 6 ≤ xGU G ∧ (∀ (a16 : Nat) (h17 : xH), a16 = nx h10 + 1 → h17 = nO h10 16 6 → xfresh h10 a16 → 1 ≤ fr ∧ 15 ≤ lo ∧ xRv G YX15_init (fr - 1) (lo - 15) [rv a16, .int 62, rv (fR h17 x0 770)] h17 (fun h26 => xext h17 h26 → 1 ≤ fr ∧ 13 ≤ lo ∧ xRr G YX15_add (fr - 1) (lo - 13) [rv a16, rv x5] h26 (fun x33 h32 => xext h26 h32 → lX3_term_32 G fr lo x0 x33 h32 Q) (fun r h2 => Q (.threw r) h2)) (fun r h2 => Q (.threw r) h2))) ∧ (x11 = 0 → Q (.returned (some (rv x5))) h10))) (fun r h2 => Q (.threw r) h2)) (fun r h2 => Q (.threw r) h2)
set_option maxRecDepth 100000 in
theorem uX3_term {G : xG} {fr lo : Nat} {x0 : Nat} {h : xH} {Q : Outcome → xH → Prop} (hq : bX3_term G fr lo x0 h Q) : xP G YX3_term fr lo 0 [(0, rv x0)] [] h Q := by
  unfold bX3_term at hq
  refine x_aload_n 0 dX3_term_0 rfl ?_
  obtain ⟨g1, hq⟩ := hq
  obtain ⟨g2, g3, hq⟩ := hq
  refine x_callV (Yc := YX3_factor) (as := []) (st := []) q1940 mvX3_factor g1 rfl dX3_term_1 (xle (xal1 (rv_cat _) xal0) (by decide)) (xfr g2) (xlo xsw0 (by decide) g3) (xKr hq (fun x5 h4 hq e6 => ?_) (fun _ _ q _ => q))
  replace hq := hq e6
  refine x_astore_n (lv' := [(1, rv x5), (0, rv x0)]) dX3_term_4 (by decide) (by first | rfl | (simp [rv_cat, Value.category]; done) | (simp [rv_cat, Value.category]; decide)) ?_
  refine x_aload_n 1 dX3_term_5 rfl ?_
  have t7 : tg h4 x0 = 4 := e6.tg g1 (by decide)
  obtain ⟨g8, g9, hq⟩ := hq
  refine x_callV (Yc := YX3_isTimes) (as := []) (st := []) q1954 mvX3_isTimes t7 rfl dX3_term_6 (xle (xal1 (rv_cat _) xal0) (by decide)) (xfr g8) (xlo xsw0 (by decide) g9) (xKi hq (fun x11 h10 hq e12 => ?_) (fun _ _ q _ => q))
  replace hq := hq e12
  refine x_if_ne (tgt := 14) dX3_term_9 (by decide) (fun c13 => ?_) (fun c13 => ?_)
  · replace hq := hq.1 c13
    obtain ⟨g14, g15, hq⟩ := hq
    obtain ⟨a16, e18⟩ : ∃ y, y = nx h10 + 1 := ⟨_, rfl⟩
    obtain ⟨h17, e19⟩ : ∃ y, y = nO h10 16 6 := ⟨_, rfl⟩
    refine x_new' cdX3_71 dX3_term_14 g14 g15 e18 e19 (fun f20 => ?_)
    replace hq := hq a16 h17 e18 e19 f20
    have t21 : tg h17 a16 = 16 := by rw [e19, e18]; exact tg_nO
    refine x_dup dX3_term_17 (rv_cat _) ?_
    refine x_bipush (v := 62) dX3_term_18 (by decide) ?_
    refine x_aload_n 1 dX3_term_20 rfl ?_
    have t22 : tg h10 x0 = 4 := e12.tg t7 (by decide)
    have t23 : tg h17 x0 = 4 := by rw [e19]; exact tg_nO_ne e18 f20 t22 (by decide)
    refine x_get (v := rv (fR h17 x0 770)) fdX3_25 dX3_term_21 t23 rfl ?_
    obtain ⟨g24, g25, hq⟩ := hq
    refine x_callI (Yc := YX15_init) (as := [.int 62, rv (fR h17 x0 770)]) (st := [rv a16]) q1749 miX15_init (by rw [t21]; decide) rfl dX3_term_24 (xle (xal1 (rv_cat _) (xal1 rfl (xal1 (rv_cat _) xal0))) (by decide)) (xfr g24) (xlo (xsw1 (rv_cat _) xsw0) (by decide) g25) (xKv hq (fun h26 hq e28 => ?_) (fun _ _ q _ => q))
    replace hq := hq e28
    refine x_aload_n 0 dX3_term_27 rfl ?_
    have t29 : tg h26 a16 = 16 := e28.tg t21 (by decide)
    obtain ⟨g30, g31, hq⟩ := hq
    refine x_callV (Yc := YX15_add) (as := [rv x5]) (st := []) q1795 mvX15_add t29 rfl dX3_term_28 (xle (xal1 (rv_cat _) (xal1 (rv_cat _) xal0)) (by decide)) (xfr g30) (xlo xsw0 (by decide) g31) (xKr hq (fun x33 h32 hq e34 => ?_) (fun _ _ q _ => q))
    replace hq := hq e34
    refine x_astore_n (lv' := [(2, rv x33), (1, rv x5), (0, rv x0)]) dX3_term_31 (by decide) (by first | rfl | (simp [rv_cat, Value.category]; done) | (simp [rv_cat, Value.category]; decide)) ?_
    refine xP.pick (lv' := [(0, rv x0), (2, rv x33)]) [2, 0] rfl ?_
    exact hq
  · replace hq := hq.2 c13
    refine x_aload_n 0 dX3_term_12 rfl ?_
    exact x_aret rfl xty_O dX3_term_13 hq
theorem rX3_term {G : xG} {fr lo : Nat} {x0 : Nat} {h : xH} {Q : Outcome → xH → Prop} (hq : bX3_term G fr lo x0 h Q) : xR G YX3_term fr lo [rv x0] h Q := by
  show xP _ _ _ _ _ (lv_args 0 _) _ _ _
  rw [show lv_args 0 [rv x0] = [(0, rv x0)] from (xla1 (rv_cat _) xla0)]
  exact uX3_term hq
set_option maxRecDepth 100000 in
theorem dX3_factor_0 : decode cX3_factor 0 = .ok (.aload_n 0, 1) := by decide +kernel
set_option maxRecDepth 100000 in
theorem dX3_factor_1 : decode cX3_factor 1 = .ok (.invokevirtual 123, 3) := by decide +kernel
set_option maxRecDepth 100000 in
theorem dX3_factor_4 : decode cX3_factor 4 = .ok (.aload_n 0, 1) := by decide +kernel
set_option maxRecDepth 100000 in
theorem dX3_factor_5 : decode cX3_factor 5 = .ok (.invokevirtual 343, 3) := by decide +kernel
set_option maxRecDepth 100000 in
theorem dX3_factor_8 : decode cX3_factor 8 = .ok (.astore_n 1, 1) := by decide +kernel
set_option maxRecDepth 100000 in
theorem dX3_factor_9 : decode cX3_factor 9 = .ok (.aload_n 0, 1) := by decide +kernel
set_option maxRecDepth 100000 in
theorem dX3_factor_10 : decode cX3_factor 10 = .ok (.dup, 1) := by decide +kernel
set_option maxRecDepth 100000 in
theorem dX3_factor_11 : decode cX3_factor 11 = .ok (.getfield 68, 3) := by decide +kernel
set_option maxRecDepth 100000 in
theorem dX3_factor_14 : decode cX3_factor 14 = .ok (.iconst 1, 1) := by decide +kernel
set_option maxRecDepth 100000 in
theorem dX3_factor_15 : decode cX3_factor 15 = .ok (.isub, 1) := by decide +kernel
set_option maxRecDepth 100000 in
theorem dX3_factor_16 : decode cX3_factor 16 = .ok (.putfield 68, 3) := by decide +kernel
set_option maxRecDepth 100000 in
theorem dX3_factor_19 : decode cX3_factor 19 = .ok (.aload_n 1, 1) := by decide +kernel
set_option maxRecDepth 100000 in
theorem dX3_factor_20 : decode cX3_factor 20 = .ok (.areturn, 1) := by decide +kernel
set_option maxRecDepth 100000 in
def bX3_factor (G : xG) (fr lo : Nat) (x0 : Nat) (h : xH) (Q : Outcome → xH → Prop) : Prop := tg h x0 = 4 ∧ 1 ≤ fr ∧ 12 ≤ lo ∧ xRv G YX3_deeper (fr - 1) (lo - 12) [rv x0] h (fun h4 => xext h h4 → 1 ≤ fr ∧ 14 ≤ lo ∧ xRr G YX3_atom (fr - 1) (lo - 14) [rv x0] h4 (fun x11 h10 => xext h4 h10 → (∀ h14 : xH, h14 = sI h10 x0 772 ((fI h10 x0 772) - 1) → Q (.returned (some (rv x11))) h14)) (fun r h2 => Q (.threw r) h2)) (fun r h2 => Q (.threw r) h2)
set_option maxRecDepth 100000 in
theorem uX3_factor {G : xG} {fr lo : Nat} {x0 : Nat} {h : xH} {Q : Outcome → xH → Prop} (hq : bX3_factor G fr lo x0 h Q) : xP G YX3_factor fr lo 0 [(0, rv x0)] [] h Q := by
  unfold bX3_factor at hq
  refine x_aload_n 0 dX3_factor_0 rfl ?_
  obtain ⟨g1, hq⟩ := hq
  obtain ⟨g2, g3, hq⟩ := hq
  refine x_callV (Yc := YX3_deeper) (as := []) (st := []) q1806 mvX3_deeper g1 rfl dX3_factor_1 (xle (xal1 (rv_cat _) xal0) (by decide)) (xfr g2) (xlo xsw0 (by decide) g3) (xKv hq (fun h4 hq e6 => ?_) (fun _ _ q _ => q))
  replace hq := hq e6
  refine x_aload_n 0 dX3_factor_4 rfl ?_
  have t7 : tg h4 x0 = 4 := e6.tg g1 (by decide)
  obtain ⟨g8, g9, hq⟩ := hq
  refine x_callV (Yc := YX3_atom) (as := []) (st := []) q1944 mvX3_atom t7 rfl dX3_factor_5 (xle (xal1 (rv_cat _) xal0) (by decide)) (xfr g8) (xlo xsw0 (by decide) g9) (xKr hq (fun x11 h10 hq e12 => ?_) (fun _ _ q _ => q))
  replace hq := hq e12
  refine x_astore_n (lv' := [(1, rv x11), (0, rv x0)]) dX3_factor_8 (by decide) (by first | rfl | (simp [rv_cat, Value.category]; done) | (simp [rv_cat, Value.category]; decide)) ?_
  refine x_aload_n 1 dX3_factor_9 rfl ?_
  refine x_dup dX3_factor_10 (rv_cat _) ?_
  have t13 : tg h10 x0 = 4 := e12.tg t7 (by decide)
  refine x_get (v := .int (fI h10 x0 772)) fdX3_68 dX3_factor_11 t13 rfl ?_
  refine x_iconst (v := 1) dX3_factor_14 (by decide) ?_
  refine x_isub dX3_factor_15 ?_
  obtain ⟨h14, e15⟩ : ∃ y, y = sI h10 x0 772 ((fI h10 x0 772) - 1) := ⟨_, rfl⟩
  replace hq := hq h14 e15
  refine x_putI fdX3_68 xty_I1 dX3_factor_16 t13 (Or.inl (by rw [t13]; rfl)) xnI rfl e15 ?_
  refine x_aload_n 0 dX3_factor_19 rfl ?_
  exact x_aret rfl xty_O dX3_factor_20 hq
theorem rX3_factor {G : xG} {fr lo : Nat} {x0 : Nat} {h : xH} {Q : Outcome → xH → Prop} (hq : bX3_factor G fr lo x0 h Q) : xR G YX3_factor fr lo [rv x0] h Q := by
  show xP _ _ _ _ _ (lv_args 0 _) _ _ _
  rw [show lv_args 0 [rv x0] = [(0, rv x0)] from (xla1 (rv_cat _) xla0)]
  exact uX3_factor hq
set_option maxRecDepth 100000 in
theorem dX3_atom_0 : decode cX3_atom 0 = .ok (.aload_n 0, 1) := by decide +kernel
set_option maxRecDepth 100000 in
theorem dX3_atom_1 : decode cX3_atom 1 = .ok (.getfield 25, 3) := by decide +kernel
set_option maxRecDepth 100000 in
theorem dX3_atom_4 : decode cX3_atom 4 = .ok (.getfield 39, 3) := by decide +kernel
set_option maxRecDepth 100000 in
theorem dX3_atom_7 : decode cX3_atom 7 = .ok (.getstatic 128, 3) := by decide +kernel
set_option maxRecDepth 100000 in
theorem dX3_atom_10 : decode cX3_atom 10 = .ok (.if_acmp .ne 17, 3) := by decide +kernel
set_option maxRecDepth 100000 in
theorem dX3_atom_13 : decode cX3_atom 13 = .ok (.new 71, 3) := by decide +kernel
set_option maxRecDepth 100000 in
theorem dX3_atom_16 : decode cX3_atom 16 = .ok (.dup, 1) := by decide +kernel
set_option maxRecDepth 100000 in
theorem dX3_atom_17 : decode cX3_atom 17 = .ok (.bipush 50, 2) := by decide +kernel
set_option maxRecDepth 100000 in
theorem dX3_atom_19 : decode cX3_atom 19 = .ok (.aload_n 0, 1) := by decide +kernel
set_option maxRecDepth 100000 in
theorem dX3_atom_20 : decode cX3_atom 20 = .ok (.invokevirtual 65, 3) := by decide +kernel
set_option maxRecDepth 100000 in
theorem dX3_atom_23 : decode cX3_atom 23 = .ok (.invokespecial 77, 3) := by decide +kernel
set_option maxRecDepth 100000 in
theorem dX3_atom_26 : decode cX3_atom 26 = .ok (.areturn, 1) := by decide +kernel
set_option maxRecDepth 100000 in
theorem dX3_atom_27 : decode cX3_atom 27 = .ok (.aload_n 0, 1) := by decide +kernel
set_option maxRecDepth 100000 in
theorem dX3_atom_28 : decode cX3_atom 28 = .ok (.getfield 25, 3) := by decide +kernel
set_option maxRecDepth 100000 in
theorem dX3_atom_31 : decode cX3_atom 31 = .ok (.getfield 39, 3) := by decide +kernel
set_option maxRecDepth 100000 in
theorem dX3_atom_34 : decode cX3_atom 34 = .ok (.getstatic 200, 3) := by decide +kernel
set_option maxRecDepth 100000 in
theorem dX3_atom_37 : decode cX3_atom 37 = .ok (.if_acmp .ne 17, 3) := by decide +kernel
set_option maxRecDepth 100000 in
theorem dX3_atom_40 : decode cX3_atom 40 = .ok (.new 71, 3) := by decide +kernel
set_option maxRecDepth 100000 in
theorem dX3_atom_43 : decode cX3_atom 43 = .ok (.dup, 1) := by decide +kernel
set_option maxRecDepth 100000 in
theorem dX3_atom_44 : decode cX3_atom 44 = .ok (.bipush 51, 2) := by decide +kernel
set_option maxRecDepth 100000 in
theorem dX3_atom_46 : decode cX3_atom 46 = .ok (.aload_n 0, 1) := by decide +kernel
set_option maxRecDepth 100000 in
theorem dX3_atom_47 : decode cX3_atom 47 = .ok (.invokevirtual 65, 3) := by decide +kernel
set_option maxRecDepth 100000 in
theorem dX3_atom_50 : decode cX3_atom 50 = .ok (.invokespecial 77, 3) := by decide +kernel
set_option maxRecDepth 100000 in
theorem dX3_atom_53 : decode cX3_atom 53 = .ok (.areturn, 1) := by decide +kernel
set_option maxRecDepth 100000 in
theorem dX3_atom_54 : decode cX3_atom 54 = .ok (.aload_n 0, 1) := by decide +kernel
set_option maxRecDepth 100000 in
theorem dX3_atom_55 : decode cX3_atom 55 = .ok (.getfield 25, 3) := by decide +kernel
set_option maxRecDepth 100000 in
theorem dX3_atom_58 : decode cX3_atom 58 = .ok (.getfield 39, 3) := by decide +kernel
set_option maxRecDepth 100000 in
theorem dX3_atom_61 : decode cX3_atom 61 = .ok (.getstatic 193, 3) := by decide +kernel
set_option maxRecDepth 100000 in
theorem dX3_atom_64 : decode cX3_atom 64 = .ok (.if_acmp .ne 17, 3) := by decide +kernel
set_option maxRecDepth 100000 in
theorem dX3_atom_67 : decode cX3_atom 67 = .ok (.new 71, 3) := by decide +kernel
set_option maxRecDepth 100000 in
theorem dX3_atom_70 : decode cX3_atom 70 = .ok (.dup, 1) := by decide +kernel
set_option maxRecDepth 100000 in
theorem dX3_atom_71 : decode cX3_atom 71 = .ok (.bipush 52, 2) := by decide +kernel
set_option maxRecDepth 100000 in
theorem dX3_atom_73 : decode cX3_atom 73 = .ok (.aload_n 0, 1) := by decide +kernel
set_option maxRecDepth 100000 in
theorem dX3_atom_74 : decode cX3_atom 74 = .ok (.invokevirtual 65, 3) := by decide +kernel
set_option maxRecDepth 100000 in
theorem dX3_atom_77 : decode cX3_atom 77 = .ok (.invokespecial 77, 3) := by decide +kernel
set_option maxRecDepth 100000 in
theorem dX3_atom_80 : decode cX3_atom 80 = .ok (.areturn, 1) := by decide +kernel
set_option maxRecDepth 100000 in
theorem dX3_atom_81 : decode cX3_atom 81 = .ok (.aload_n 0, 1) := by decide +kernel
set_option maxRecDepth 100000 in
theorem dX3_atom_82 : decode cX3_atom 82 = .ok (.ldc_w 346, 3) := by decide +kernel
set_option maxRecDepth 100000 in
theorem dX3_atom_85 : decode cX3_atom 85 = .ok (.invokevirtual 60, 3) := by decide +kernel
set_option maxRecDepth 100000 in
theorem dX3_atom_88 : decode cX3_atom 88 = .ok (.ifCond .eq 17, 3) := by decide +kernel
set_option maxRecDepth 100000 in
theorem dX3_atom_91 : decode cX3_atom 91 = .ok (.new 71, 3) := by decide +kernel
set_option maxRecDepth 100000 in
theorem dX3_atom_94 : decode cX3_atom 94 = .ok (.dup, 1) := by decide +kernel
set_option maxRecDepth 100000 in
theorem dX3_atom_95 : decode cX3_atom 95 = .ok (.bipush 53, 2) := by decide +kernel
set_option maxRecDepth 100000 in
theorem dX3_atom_97 : decode cX3_atom 97 = .ok (.aload_n 0, 1) := by decide +kernel
set_option maxRecDepth 100000 in
theorem dX3_atom_98 : decode cX3_atom 98 = .ok (.invokevirtual 65, 3) := by decide +kernel
set_option maxRecDepth 100000 in
theorem dX3_atom_101 : decode cX3_atom 101 = .ok (.invokespecial 77, 3) := by decide +kernel
set_option maxRecDepth 100000 in
theorem dX3_atom_104 : decode cX3_atom 104 = .ok (.areturn, 1) := by decide +kernel
set_option maxRecDepth 100000 in
theorem dX3_atom_105 : decode cX3_atom 105 = .ok (.aload_n 0, 1) := by decide +kernel
set_option maxRecDepth 100000 in
theorem dX3_atom_106 : decode cX3_atom 106 = .ok (.ldc_w 348, 3) := by decide +kernel
set_option maxRecDepth 100000 in
theorem dX3_atom_109 : decode cX3_atom 109 = .ok (.invokevirtual 60, 3) := by decide +kernel
set_option maxRecDepth 100000 in
theorem dX3_atom_112 : decode cX3_atom 112 = .ok (.ifCond .eq 24, 3) := by decide +kernel
set_option maxRecDepth 100000 in
theorem dX3_atom_115 : decode cX3_atom 115 = .ok (.new 71, 3) := by decide +kernel
set_option maxRecDepth 100000 in
theorem dX3_atom_118 : decode cX3_atom 118 = .ok (.dup, 1) := by decide +kernel
set_option maxRecDepth 100000 in
theorem dX3_atom_119 : decode cX3_atom 119 = .ok (.bipush 54, 2) := by decide +kernel
set_option maxRecDepth 100000 in
theorem dX3_atom_121 : decode cX3_atom 121 = .ok (.aload_n 0, 1) := by decide +kernel
set_option maxRecDepth 100000 in
theorem dX3_atom_122 : decode cX3_atom 122 = .ok (.invokevirtual 65, 3) := by decide +kernel
set_option maxRecDepth 100000 in
theorem dX3_atom_125 : decode cX3_atom 125 = .ok (.invokespecial 77, 3) := by decide +kernel
set_option maxRecDepth 100000 in
theorem dX3_atom_128 : decode cX3_atom 128 = .ok (.aload_n 0, 1) := by decide +kernel
set_option maxRecDepth 100000 in
theorem dX3_atom_129 : decode cX3_atom 129 = .ok (.invokevirtual 337, 3) := by decide +kernel
set_option maxRecDepth 100000 in
theorem dX3_atom_132 : decode cX3_atom 132 = .ok (.invokevirtual 84, 3) := by decide +kernel
set_option maxRecDepth 100000 in
theorem dX3_atom_135 : decode cX3_atom 135 = .ok (.areturn, 1) := by decide +kernel
set_option maxRecDepth 100000 in
theorem dX3_atom_136 : decode cX3_atom 136 = .ok (.aload_n 0, 1) := by decide +kernel
set_option maxRecDepth 100000 in
theorem dX3_atom_137 : decode cX3_atom 137 = .ok (.ldc 105, 2) := by decide +kernel
set_option maxRecDepth 100000 in
theorem dX3_atom_139 : decode cX3_atom 139 = .ok (.invokevirtual 60, 3) := by decide +kernel
set_option maxRecDepth 100000 in
theorem dX3_atom_142 : decode cX3_atom 142 = .ok (.ifCond .eq 33, 3) := by decide +kernel
set_option maxRecDepth 100000 in
theorem dX3_atom_145 : decode cX3_atom 145 = .ok (.new 71, 3) := by decide +kernel
set_option maxRecDepth 100000 in
theorem dX3_atom_148 : decode cX3_atom 148 = .ok (.dup, 1) := by decide +kernel
set_option maxRecDepth 100000 in
theorem dX3_atom_149 : decode cX3_atom 149 = .ok (.bipush 67, 2) := by decide +kernel
set_option maxRecDepth 100000 in
theorem dX3_atom_151 : decode cX3_atom 151 = .ok (.aload_n 0, 1) := by decide +kernel
set_option maxRecDepth 100000 in
theorem dX3_atom_152 : decode cX3_atom 152 = .ok (.invokevirtual 65, 3) := by decide +kernel
set_option maxRecDepth 100000 in
theorem dX3_atom_155 : decode cX3_atom 155 = .ok (.invokespecial 77, 3) := by decide +kernel
set_option maxRecDepth 100000 in
theorem dX3_atom_158 : decode cX3_atom 158 = .ok (.aload_n 0, 1) := by decide +kernel
set_option maxRecDepth 100000 in
theorem dX3_atom_159 : decode cX3_atom 159 = .ok (.invokevirtual 261, 3) := by decide +kernel
set_option maxRecDepth 100000 in
theorem dX3_atom_162 : decode cX3_atom 162 = .ok (.invokevirtual 84, 3) := by decide +kernel
set_option maxRecDepth 100000 in
theorem dX3_atom_165 : decode cX3_atom 165 = .ok (.astore_n 1, 1) := by decide +kernel
set_option maxRecDepth 100000 in
theorem dX3_atom_166 : decode cX3_atom 166 = .ok (.aload_n 0, 1) := by decide +kernel
set_option maxRecDepth 100000 in
theorem dX3_atom_167 : decode cX3_atom 167 = .ok (.ldc 111, 2) := by decide +kernel
set_option maxRecDepth 100000 in
theorem dX3_atom_169 : decode cX3_atom 169 = .ok (.invokevirtual 99, 3) := by decide +kernel
set_option maxRecDepth 100000 in
theorem dX3_atom_172 : decode cX3_atom 172 = .ok (.pop, 1) := by decide +kernel
set_option maxRecDepth 100000 in
theorem dX3_atom_173 : decode cX3_atom 173 = .ok (.aload_n 1, 1) := by decide +kernel
set_option maxRecDepth 100000 in
theorem dX3_atom_174 : decode cX3_atom 174 = .ok (.areturn, 1) := by decide +kernel
set_option maxRecDepth 100000 in
theorem dX3_atom_175 : decode cX3_atom 175 = .ok (.aload_n 0, 1) := by decide +kernel
set_option maxRecDepth 100000 in
theorem dX3_atom_176 : decode cX3_atom 176 = .ok (.ldc 221, 2) := by decide +kernel
set_option maxRecDepth 100000 in
theorem dX3_atom_178 : decode cX3_atom 178 = .ok (.invokevirtual 60, 3) := by decide +kernel
set_option maxRecDepth 100000 in
theorem dX3_atom_181 : decode cX3_atom 181 = .ok (.ifCond .eq 8, 3) := by decide +kernel
set_option maxRecDepth 100000 in
theorem dX3_atom_184 : decode cX3_atom 184 = .ok (.aload_n 0, 1) := by decide +kernel
set_option maxRecDepth 100000 in
theorem dX3_atom_185 : decode cX3_atom 185 = .ok (.invokevirtual 350, 3) := by decide +kernel
set_option maxRecDepth 100000 in
theorem dX3_atom_188 : decode cX3_atom 188 = .ok (.areturn, 1) := by decide +kernel
set_option maxRecDepth 100000 in
theorem dX3_atom_189 : decode cX3_atom 189 = .ok (.aload_n 0, 1) := by decide +kernel
set_option maxRecDepth 100000 in
theorem dX3_atom_190 : decode cX3_atom 190 = .ok (.getstatic 43, 3) := by decide +kernel
set_option maxRecDepth 100000 in
theorem dX3_atom_193 : decode cX3_atom 193 = .ok (.invokevirtual 73, 3) := by decide +kernel
set_option maxRecDepth 100000 in
theorem dX3_atom_196 : decode cX3_atom 196 = .ok (.astore_n 1, 1) := by decide +kernel
set_option maxRecDepth 100000 in
theorem dX3_atom_197 : decode cX3_atom 197 = .ok (.aload_n 0, 1) := by decide +kernel
set_option maxRecDepth 100000 in
theorem dX3_atom_198 : decode cX3_atom 198 = .ok (.ldc 105, 2) := by decide +kernel
set_option maxRecDepth 100000 in
theorem dX3_atom_200 : decode cX3_atom 200 = .ok (.invokevirtual 60, 3) := by decide +kernel
set_option maxRecDepth 100000 in
theorem dX3_atom_203 : decode cX3_atom 203 = .ok (.ifCond .ne 9, 3) := by decide +kernel
set_option maxRecDepth 100000 in
theorem dX3_atom_206 : decode cX3_atom 206 = .ok (.aload_n 0, 1) := by decide +kernel
set_option maxRecDepth 100000 in
theorem dX3_atom_207 : decode cX3_atom 207 = .ok (.aload_n 1, 1) := by decide +kernel
set_option maxRecDepth 100000 in
theorem dX3_atom_208 : decode cX3_atom 208 = .ok (.invokevirtual 298, 3) := by decide +kernel
set_option maxRecDepth 100000 in
theorem dX3_atom_211 : decode cX3_atom 211 = .ok (.areturn, 1) := by decide +kernel
set_option maxRecDepth 100000 in
theorem dX3_atom_212 : decode cX3_atom 212 = .ok (.aload_n 0, 1) := by decide +kernel
set_option maxRecDepth 100000 in
theorem dX3_atom_213 : decode cX3_atom 213 = .ok (.invokevirtual 57, 3) := by decide +kernel
set_option maxRecDepth 100000 in
theorem dX3_atom_216 : decode cX3_atom 216 = .ok (.new 71, 3) := by decide +kernel
set_option maxRecDepth 100000 in
theorem dX3_atom_219 : decode cX3_atom 219 = .ok (.dup, 1) := by decide +kernel
set_option maxRecDepth 100000 in
theorem dX3_atom_220 : decode cX3_atom 220 = .ok (.bipush 57, 2) := by decide +kernel
set_option maxRecDepth 100000 in
theorem dX3_atom_222 : decode cX3_atom 222 = .ok (.aload_n 1, 1) := by decide +kernel
set_option maxRecDepth 100000 in
theorem dX3_atom_223 : decode cX3_atom 223 = .ok (.invokespecial 77, 3) := by decide +kernel
set_option maxRecDepth 100000 in
theorem dX3_atom_226 : decode cX3_atom 226 = .ok (.astore_n 2, 1) := by decide +kernel
set_option maxRecDepth 100000 in
theorem dX3_atom_227 : decode cX3_atom 227 = .ok (.aload_n 2, 1) := by decide +kernel
set_option maxRecDepth 100000 in
theorem dX3_atom_228 : decode cX3_atom 228 = .ok (.aload_n 0, 1) := by decide +kernel
set_option maxRecDepth 100000 in
theorem dX3_atom_229 : decode cX3_atom 229 = .ok (.invokevirtual 261, 3) := by decide +kernel
set_option maxRecDepth 100000 in
theorem dX3_atom_232 : decode cX3_atom 232 = .ok (.invokevirtual 84, 3) := by decide +kernel
set_option maxRecDepth 100000 in
theorem dX3_atom_235 : decode cX3_atom 235 = .ok (.pop, 1) := by decide +kernel
set_option maxRecDepth 100000 in
theorem dX3_atom_236 : decode cX3_atom 236 = .ok (.aload_n 0, 1) := by decide +kernel
set_option maxRecDepth 100000 in
theorem dX3_atom_237 : decode cX3_atom 237 = .ok (.ldc 88, 2) := by decide +kernel
set_option maxRecDepth 100000 in
theorem dX3_atom_239 : decode cX3_atom 239 = .ok (.invokevirtual 90, 3) := by decide +kernel
set_option maxRecDepth 100000 in
theorem dX3_atom_242 : decode cX3_atom 242 = .ok (.ifCond .ne (-15), 3) := by decide +kernel
set_option maxRecDepth 100000 in
theorem dX3_atom_245 : decode cX3_atom 245 = .ok (.aload_n 0, 1) := by decide +kernel
set_option maxRecDepth 100000 in
theorem dX3_atom_246 : decode cX3_atom 246 = .ok (.ldc 111, 2) := by decide +kernel
set_option maxRecDepth 100000 in
theorem dX3_atom_248 : decode cX3_atom 248 = .ok (.invokevirtual 99, 3) := by decide +kernel
set_option maxRecDepth 100000 in
theorem dX3_atom_251 : decode cX3_atom 251 = .ok (.pop, 1) := by decide +kernel
set_option maxRecDepth 100000 in
theorem dX3_atom_252 : decode cX3_atom 252 = .ok (.aload_n 2, 1) := by decide +kernel
set_option maxRecDepth 100000 in
theorem dX3_atom_253 : decode cX3_atom 253 = .ok (.areturn, 1) := by decide +kernel
def lX3_atom_227 (G : xG) (fr lo : Nat) (x0 : Nat) (x2 : Nat) (h : xH) (Q : Outcome → xH → Prop) : Prop := xP G YX3_atom fr lo 227 [(0, rv x0), (2, rv x2)] [] h Q
set_option maxRecDepth 100000 in
def bX3_atom_227 (G : xG) (fr lo : Nat) (x0 : Nat) (x2 : Nat) (h : xH) (Q : Outcome → xH → Prop) : Prop := tg h x0 = 4 ∧ 1 ≤ fr ∧ 14 ≤ lo ∧ xRr G YX3_e (fr - 1) (lo - 14) [rv x0] h (fun x5 h4 => xext h h4 → tg h4 x2 = 16 ∧ 1 ≤ fr ∧ 13 ≤ lo ∧ xRr G YX15_add (fr - 1) (lo - 13) [rv x2, rv x5] h4 (fun x11 h10 => xext h4 h10 → 1 ≤ fr ∧ 13 ≤ lo ∧ xRi G YX3_has (fr - 1) (lo - 13) [rv x0, rv (tx G 63)] h10 (fun x18 h17 => xext h10 h17 → ((¬ x18 = 0 → lX3_atom_227 G fr lo x0 x2 h17 Q) ∧ (x18 = 0 → 1 ≤ fr ∧ 13 ≤ lo ∧ xRr G YX3_need (fr - 1) (lo - 13) [rv x0, rv (tx G 61)] h17 (fun x25 h24 => xext h17 h24 → Q (.returned (some (rv x2))) h24) (fun r h2 => Q (.threw r) h2)))) (fun r h2 => Q (.threw r) h2)) (fun r h2 => Q (.threw r) h2)) (fun r h2 => Q (.threw r) h2)
set_option maxRecDepth 100000 in
theorem uX3_atom_227 {G : xG} {fr lo : Nat} {x0 : Nat} {x2 : Nat} {h : xH} {Q : Outcome → xH → Prop} (hq : bX3_atom_227 G fr lo x0 x2 h Q) : xP G YX3_atom fr lo 227 [(0, rv x0), (2, rv x2)] [] h Q := by
  unfold bX3_atom_227 at hq
  refine x_aload_n 1 dX3_atom_227 rfl ?_
  refine x_aload_n 0 dX3_atom_228 rfl ?_
  obtain ⟨g1, hq⟩ := hq
  obtain ⟨g2, g3, hq⟩ := hq
  refine x_callV (Yc := YX3_e) (as := []) (st := [rv x2]) q1928 mvX3_e g1 rfl dX3_atom_229 (xle (xal1 (rv_cat _) xal0) (by decide)) (xfr g2) (xlo (xsw1 (rv_cat _) xsw0) (by decide) g3) (xKr hq (fun x5 h4 hq e6 => ?_) (fun _ _ q _ => q))
  replace hq := hq e6
  obtain ⟨g7, hq⟩ := hq
  obtain ⟨g8, g9, hq⟩ := hq
  refine x_callV (Yc := YX15_add) (as := [rv x5]) (st := []) q1795 mvX15_add g7 rfl dX3_atom_232 (xle (xal1 (rv_cat _) (xal1 (rv_cat _) xal0)) (by decide)) (xfr g8) (xlo xsw0 (by decide) g9) (xKr hq (fun x11 h10 hq e12 => ?_) (fun _ _ q _ => q))
  replace hq := hq e12
  refine x_pop dX3_atom_235 (rv_cat _) ?_
  refine x_aload_n 0 dX3_atom_236 rfl ?_
  refine x_ldcS (n := 63) 69 srX3_88 dX3_atom_237 ?_
  have t13 : tg h4 x0 = 4 := e6.tg g1 (by decide)
  have t14 : tg h10 x0 = 4 := e12.tg t13 (by decide)
  obtain ⟨g15, g16, hq⟩ := hq
  refine x_callV (Yc := YX3_has) (as := [rv (tx G 63)]) (st := []) q1783 mvX3_has t14 rfl dX3_atom_239 (xle (xal1 (rv_cat _) (xal1 (rv_cat _) xal0)) (by decide)) (xfr g15) (xlo xsw0 (by decide) g16) (xKi hq (fun x18 h17 hq e19 => ?_) (fun _ _ q _ => q))
  replace hq := hq e19
  refine x_if_ne (tgt := 227) dX3_atom_242 (by decide) (fun c20 => ?_) (fun c20 => ?_)
  · replace hq := hq.1 c20
    exact hq
  · replace hq := hq.2 c20
    refine x_aload_n 0 dX3_atom_245 rfl ?_
    refine x_ldcS (n := 61) 70 srX3_111 dX3_atom_246 ?_
    have t21 : tg h17 x0 = 4 := e19.tg t14 (by decide)
    obtain ⟨g22, g23, hq⟩ := hq
    refine x_callV (Yc := YX3_need) (as := [rv (tx G 61)]) (st := []) q1719 mvX3_need t21 rfl dX3_atom_248 (xle (xal1 (rv_cat _) (xal1 (rv_cat _) xal0)) (by decide)) (xfr g22) (xlo xsw0 (by decide) g23) (xKr hq (fun x25 h24 hq e26 => ?_) (fun _ _ q _ => q))
    replace hq := hq e26
    refine x_pop dX3_atom_251 (rv_cat _) ?_
    refine x_aload_n 1 dX3_atom_252 rfl ?_
    exact x_aret rfl xty_O dX3_atom_253 hq
set_option maxRecDepth 100000 in
def bX3_atom (G : xG) (fr lo : Nat) (x0 : Nat) (h : xH) (Q : Outcome → xH → Prop) : Prop := tg h x0 = 4 ∧ tg h (fR h x0 770) = 15 ∧ ((¬ (fR h (fR h x0 770) 3584) = (xGS G 2) → ((¬ (fR h (fR h x0 770) 3584) = (xGS G 3) → ((¬ (fR h (fR h x0 770) 3584) = (xGS G 4) → 1 ≤ fr ∧ 13 ≤ lo ∧ xRi G YX3_is (fr - 1) (lo - 13) [rv x0, rv (tx G 18)] h (fun x9 h8 => xext h h8 → ((x9 = 0 → 1 ≤ fr ∧ 13 ≤ lo ∧ xRi G YX3_is (fr - 1) (lo - 13) [rv x0, rv (tx G 19)] h8 (fun x16 h15 => xext h8 h15 → ((x16 = 0 → 1 ≤ fr ∧ 13 ≤ lo ∧ xRi G YX3_is (fr - 1) (lo - 13) [rv x0, rv (tx G 60)] h15 (fun x23 h22 => xext h15 h22 → ((x23 = 0 → 1 ≤ fr ∧ 13 ≤ lo ∧ xRi G YX3_is (fr - 1) (lo - 13) [rv x0, rv (tx G 46)] h22 (fun x30 h29 => xext h22 h29 → ((x30 = 0 → 1 ≤ fr ∧ 13 ≤ lo ∧ xRr G YX3_needSort (fr - 1) (lo - 13) [rv x0, rv (xGS G 1)] h29 (fun x37 h36 => xext h29 h36 → 1 ≤ fr ∧ 13 ≤ lo ∧ xRi G YX3_is (fr - 1) (lo - 13) [rv x0, rv (tx G 60)] h36 (fun x43 h42 => xext h36 h42 → ((¬ x43 = 0 → 1 ≤ fr ∧ 12 ≤ lo ∧ xRv G YX3_step (fr - 1) (lo - 12) [rv x0] h42 (fun h49 => xext h42 h49 → nx h49 + 1 ≤ xGN G ∧ us h49 + 6 ≤ xGU G ∧ (∀ (a54 : Nat) (h55 : xH), a54 = nx h49 + 1 → h55 = nO h49 16 6 → xfresh h49 a54 → 1 ≤ fr ∧ 15 ≤ lo ∧ xRv G YX15_init (fr - 1) (lo - 15) [rv a54, .int 57, rv x37] h55 (fun h62 => xext h55 h62 → lX3_atom_227 G fr lo x0 a54 h62 Q) (fun r h2 => Q (.threw r) h2))) (fun r h2 => Q (.threw r) h2)) ∧ (x43 = 0 → 1 ≤ fr ∧ 16 ≤ lo ∧ xRr G YX3_variable (fr - 1) (lo - 16) [rv x0, rv x37] h42 (fun x69 h68 => xext h42 h68 → Q (.returned (some (rv x69))) h68) (fun r h2 => Q (.threw r) h2)))) (fun r h2 => Q (.threw r) h2)) (fun r h2 => Q (.threw r) h2)) ∧ (¬ x30 = 0 → 1 ≤ fr ∧ 15 ≤ lo ∧ xRr G YX3_make (fr - 1) (lo - 15) [rv x0] h29 (fun x75 h74 => xext h29 h74 → Q (.returned (some (rv x75))) h74) (fun r h2 => Q (.threw r) h2)))) (fun r h2 => Q (.threw r) h2)) ∧ (¬ x23 = 0 → nx h22 + 1 ≤ xGN G ∧ us h22 + 6 ≤ xGU G ∧ (∀ (a79 : Nat) (h80 : xH), a79 = nx h22 + 1 → h80 = nO h22 16 6 → xfresh h22 a79 → 1 ≤ fr ∧ 16 ≤ lo ∧ xRr G YX3_take (fr - 1) (lo - 16) [rv x0] h80 (fun x90 h89 => xext h80 h89 → 1 ≤ fr ∧ 15 ≤ lo ∧ xRv G YX15_init (fr - 1) (lo - 15) [rv a79, .int 67, rv x90] h89 (fun h95 => xext h89 h95 → 1 ≤ fr ∧ 14 ≤ lo ∧ xRr G YX3_e (fr - 1) (lo - 14) [rv x0] h95 (fun x103 h102 => xext h95 h102 → 1 ≤ fr ∧ 13 ≤ lo ∧ xRr G YX15_add (fr - 1) (lo - 13) [rv a79, rv x103] h102 (fun x110 h109 => xext h102 h109 → 1 ≤ fr ∧ 13 ≤ lo ∧ xRr G YX3_need (fr - 1) (lo - 13) [rv x0, rv (tx G 61)] h109 (fun x117 h116 => xext h109 h116 → Q (.returned (some (rv x110))) h116) (fun r h2 => Q (.threw r) h2)) (fun r h2 => Q (.threw r) h2)) (fun r h2 => Q (.threw r) h2)) (fun r h2 => Q (.threw r) h2)) (fun r h2 => Q (.threw r) h2))))) (fun r h2 => Q (.threw r) h2)) ∧ (¬ x16 = 0 → nx h15 + 1 ≤ xGN G ∧ us h15 + 6 ≤ xGU G ∧ (∀ (a121 : Nat) (h122 : xH), a121 = nx h15 + 1 → h122 = nO h15 16 6 → xfresh h15 a121 → 1 ≤ fr ∧ 16 ≤ lo ∧ xRr G YX3_take (fr - 1) (lo - 16) [rv x0] h122 (fun x132 h131 => xext h122 h131 → 1 ≤ fr ∧ 15 ≤ lo ∧ xRv G YX15_init (fr - 1) (lo - 15) [rv a121, .int 54, rv x132] h131 (fun h137 => xext h131 h137 → 1 ≤ fr ∧ 14 ≤ lo ∧ xRr G YX3_factor (fr - 1) (lo - 14) [rv x0] h137 (fun x145 h144 => xext h137 h144 → 1 ≤ fr ∧ 13 ≤ lo ∧ xRr G YX15_add (fr - 1) (lo - 13) [rv a121, rv x145] h144 (fun x152 h151 => xext h144 h151 → Q (.returned (some (rv x152))) h151) (fun r h2 => Q (.threw r) h2)) (fun r h2 => Q (.threw r) h2)) (fun r h2 => Q (.threw r) h2)) (fun r h2 => Q (.threw r) h2))))) (fun r h2 => Q (.threw r) h2)) ∧ (¬ x9 = 0 → nx h8 + 1 ≤ xGN G ∧ us h8 + 6 ≤ xGU G ∧ (∀ (a156 : Nat) (h157 : xH), a156 = nx h8 + 1 → h157 = nO h8 16 6 → xfresh h8 a156 → 1 ≤ fr ∧ 16 ≤ lo ∧ xRr G YX3_take (fr - 1) (lo - 16) [rv x0] h157 (fun x167 h166 => xext h157 h166 → 1 ≤ fr ∧ 15 ≤ lo ∧ xRv G YX15_init (fr - 1) (lo - 15) [rv a156, .int 53, rv x167] h166 (fun h172 => xext h166 h172 → Q (.returned (some (rv a156))) h172) (fun r h2 => Q (.threw r) h2)) (fun r h2 => Q (.threw r) h2))))) (fun r h2 => Q (.threw r) h2)) ∧ ((fR h (fR h x0 770) 3584) = (xGS G 4) → nx h + 1 ≤ xGN G ∧ us h + 6 ≤ xGU G ∧ (∀ (a177 : Nat) (h178 : xH), a177 = nx h + 1 → h178 = nO h 16 6 → xfresh h a177 → 1 ≤ fr ∧ 16 ≤ lo ∧ xRr G YX3_take (fr - 1) (lo - 16) [rv x0] h178 (fun x187 h186 => xext h178 h186 → 1 ≤ fr ∧ 15 ≤ lo ∧ xRv G YX15_init (fr - 1) (lo - 15) [rv a177, .int 52, rv x187] h186 (fun h192 => xext h186 h192 → Q (.returned (some (rv a177))) h192) (fun r h2 => Q (.threw r) h2)) (fun r h2 => Q (.threw r) h2))))) ∧ ((fR h (fR h x0 770) 3584) = (xGS G 3) → nx h + 1 ≤ xGN G ∧ us h + 6 ≤ xGU G ∧ (∀ (a197 : Nat) (h198 : xH), a197 = nx h + 1 → h198 = nO h 16 6 → xfresh h a197 → 1 ≤ fr ∧ 16 ≤ lo ∧ xRr G YX3_take (fr - 1) (lo - 16) [rv x0] h198 (fun x207 h206 => xext h198 h206 → 1 ≤ fr ∧ 15 ≤ lo ∧ xRv G YX15_init (fr - 1) (lo - 15) [rv a197, .int 51, rv x207] h206 (fun h212 => xext h206 h212 → Q (.returned (some (rv a197))) h212) (fun r h2 => Q (.threw r) h2)) (fun r h2 => Q (.threw r) h2))))) ∧ ((fR h (fR h x0 770) 3584) = (xGS G 2) → nx h + 1 ≤ xGN G ∧ us h + 6 ≤ xGU G ∧ (∀ (a217 : Nat) (h218 : xH), a217 = nx h + 1 → h218 = nO h 16 6 → xfresh h a217 → 1 ≤ fr ∧ 16 ≤ lo ∧ xRr G YX3_take (fr - 1) (lo - 16) [rv x0] h218 (fun x227 h226 => xext h218 h226 → 1 ≤ fr ∧ 15 ≤ lo ∧ xRv G YX15_init (fr - 1) (lo - 15) [rv a217, .int 50, rv x227] h226 (fun h232 => xext h226 h232 → Q (.returned (some (rv a217))) h232) (fun r h2 => Q (.threw r) h2)) (fun r h2 => Q (.threw r) h2))))
set_option maxRecDepth 100000 in
theorem uX3_atom {G : xG} {fr lo : Nat} {x0 : Nat} {h : xH} {Q : Outcome → xH → Prop} (hq : bX3_atom G fr lo x0 h Q) : xP G YX3_atom fr lo 0 [(0, rv x0)] [] h Q := by
  unfold bX3_atom at hq
  refine x_aload_n 0 dX3_atom_0 rfl ?_
  obtain ⟨g1, hq⟩ := hq
  refine x_get (v := rv (fR h x0 770)) fdX3_25 dX3_atom_1 g1 rfl ?_
  obtain ⟨g2, hq⟩ := hq
  refine x_getN (v := rv (fR h (fR h x0 770) 3584)) gfX3_39 dX3_atom_4 g2 rfl ?_
  refine x_gets (v := rv (xGS G 2)) 2 rfl q1811 (by simp [xsv]) dX3_atom_7 ?_
  refine x_acmp_ne (tgt := 27) dX3_atom_10 (by decide) (fun c3 => ?_) (fun c3 => ?_)
  · replace hq := hq.1 c3
    refine x_aload_n 0 dX3_atom_27 rfl ?_
    refine x_get (v := rv (fR h x0 770)) fdX3_25 dX3_atom_28 g1 rfl ?_
    refine x_getN (v := rv (fR h (fR h x0 770) 3584)) gfX3_39 dX3_atom_31 g2 rfl ?_
    refine x_gets (v := rv (xGS G 3)) 3 rfl q1825 (by simp [xsv]) dX3_atom_34 ?_
    refine x_acmp_ne (tgt := 54) dX3_atom_37 (by decide) (fun c4 => ?_) (fun c4 => ?_)
    · replace hq := hq.1 c4
      refine x_aload_n 0 dX3_atom_54 rfl ?_
      refine x_get (v := rv (fR h x0 770)) fdX3_25 dX3_atom_55 g1 rfl ?_
      refine x_getN (v := rv (fR h (fR h x0 770) 3584)) gfX3_39 dX3_atom_58 g2 rfl ?_
      refine x_gets (v := rv (xGS G 4)) 4 rfl q1822 (by simp [xsv]) dX3_atom_61 ?_
      refine x_acmp_ne (tgt := 81) dX3_atom_64 (by decide) (fun c5 => ?_) (fun c5 => ?_)
      · replace hq := hq.1 c5
        refine x_aload_n 0 dX3_atom_81 rfl ?_
        refine x_ldcwS (n := 18) 98 srX3_346 dX3_atom_82 ?_
        obtain ⟨g6, g7, hq⟩ := hq
        refine x_callV (Yc := YX3_is) (as := [rv (tx G 18)]) (st := []) q1723 mvX3_is g1 rfl dX3_atom_85 (xle (xal1 (rv_cat _) (xal1 (rv_cat _) xal0)) (by decide)) (xfr g6) (xlo xsw0 (by decide) g7) (xKi hq (fun x9 h8 hq e10 => ?_) (fun _ _ q _ => q))
        replace hq := hq e10
        refine x_if_eq (tgt := 105) dX3_atom_88 (by decide) (fun c11 => ?_) (fun c11 => ?_)
        · replace hq := hq.1 c11
          refine x_aload_n 0 dX3_atom_105 rfl ?_
          refine x_ldcwS (n := 19) 99 srX3_348 dX3_atom_106 ?_
          have t12 : tg h8 x0 = 4 := e10.tg g1 (by decide)
          obtain ⟨g13, g14, hq⟩ := hq
          refine x_callV (Yc := YX3_is) (as := [rv (tx G 19)]) (st := []) q1723 mvX3_is t12 rfl dX3_atom_109 (xle (xal1 (rv_cat _) (xal1 (rv_cat _) xal0)) (by decide)) (xfr g13) (xlo xsw0 (by decide) g14) (xKi hq (fun x16 h15 hq e17 => ?_) (fun _ _ q _ => q))
          replace hq := hq e17
          refine x_if_eq (tgt := 136) dX3_atom_112 (by decide) (fun c18 => ?_) (fun c18 => ?_)
          · replace hq := hq.1 c18
            refine x_aload_n 0 dX3_atom_136 rfl ?_
            refine x_ldcS (n := 60) 68 srX3_105 dX3_atom_137 ?_
            have t19 : tg h15 x0 = 4 := e17.tg t12 (by decide)
            obtain ⟨g20, g21, hq⟩ := hq
            refine x_callV (Yc := YX3_is) (as := [rv (tx G 60)]) (st := []) q1723 mvX3_is t19 rfl dX3_atom_139 (xle (xal1 (rv_cat _) (xal1 (rv_cat _) xal0)) (by decide)) (xfr g20) (xlo xsw0 (by decide) g21) (xKi hq (fun x23 h22 hq e24 => ?_) (fun _ _ q _ => q))
            replace hq := hq e24
            refine x_if_eq (tgt := 175) dX3_atom_142 (by decide) (fun c25 => ?_) (fun c25 => ?_)
            · replace hq := hq.1 c25
              refine x_aload_n 0 dX3_atom_175 rfl ?_
              refine x_ldcS (n := 46) 81 srX3_221 dX3_atom_176 ?_
              have t26 : tg h22 x0 = 4 := e24.tg t19 (by decide)
              obtain ⟨g27, g28, hq⟩ := hq
              refine x_callV (Yc := YX3_is) (as := [rv (tx G 46)]) (st := []) q1723 mvX3_is t26 rfl dX3_atom_178 (xle (xal1 (rv_cat _) (xal1 (rv_cat _) xal0)) (by decide)) (xfr g27) (xlo xsw0 (by decide) g28) (xKi hq (fun x30 h29 hq e31 => ?_) (fun _ _ q _ => q))
              replace hq := hq e31
              refine x_if_eq (tgt := 189) dX3_atom_181 (by decide) (fun c32 => ?_) (fun c32 => ?_)
              · replace hq := hq.1 c32
                refine x_aload_n 0 dX3_atom_189 rfl ?_
                refine x_gets (v := rv (xGS G 1)) 1 rfl q1744 (by simp [xsv]) dX3_atom_190 ?_
                have t33 : tg h29 x0 = 4 := e31.tg t26 (by decide)
                obtain ⟨g34, g35, hq⟩ := hq
                refine x_callV (Yc := YX3_needSort) (as := [rv (xGS G 1)]) (st := []) q1745 mvX3_needSort t33 rfl dX3_atom_193 (xle (xal1 (rv_cat _) (xal1 (rv_cat _) xal0)) (by decide)) (xfr g34) (xlo xsw0 (by decide) g35) (xKr hq (fun x37 h36 hq e38 => ?_) (fun _ _ q _ => q))
                replace hq := hq e38
                refine x_astore_n (lv' := [(1, rv x37), (0, rv x0)]) dX3_atom_196 (by decide) (by first | rfl | (simp [rv_cat, Value.category]; done) | (simp [rv_cat, Value.category]; decide)) ?_
                refine x_aload_n 1 dX3_atom_197 rfl ?_
                refine x_ldcS (n := 60) 68 srX3_105 dX3_atom_198 ?_
                have t39 : tg h36 x0 = 4 := e38.tg t33 (by decide)
                obtain ⟨g40, g41, hq⟩ := hq
                refine x_callV (Yc := YX3_is) (as := [rv (tx G 60)]) (st := []) q1723 mvX3_is t39 rfl dX3_atom_200 (xle (xal1 (rv_cat _) (xal1 (rv_cat _) xal0)) (by decide)) (xfr g40) (xlo xsw0 (by decide) g41) (xKi hq (fun x43 h42 hq e44 => ?_) (fun _ _ q _ => q))
                replace hq := hq e44
                refine x_if_ne (tgt := 212) dX3_atom_203 (by decide) (fun c45 => ?_) (fun c45 => ?_)
                · replace hq := hq.1 c45
                  refine x_aload_n 1 dX3_atom_212 rfl ?_
                  have t46 : tg h42 x0 = 4 := e44.tg t39 (by decide)
                  obtain ⟨g47, g48, hq⟩ := hq
                  refine x_callV (Yc := YX3_step) (as := []) (st := []) q1568 mvX3_step t46 rfl dX3_atom_213 (xle (xal1 (rv_cat _) xal0) (by decide)) (xfr g47) (xlo xsw0 (by decide) g48) (xKv hq (fun h49 hq e51 => ?_) (fun _ _ q _ => q))
                  replace hq := hq e51
                  obtain ⟨g52, g53, hq⟩ := hq
                  obtain ⟨a54, e56⟩ : ∃ y, y = nx h49 + 1 := ⟨_, rfl⟩
                  obtain ⟨h55, e57⟩ : ∃ y, y = nO h49 16 6 := ⟨_, rfl⟩
                  refine x_new' cdX3_71 dX3_atom_216 g52 g53 e56 e57 (fun f58 => ?_)
                  replace hq := hq a54 h55 e56 e57 f58
                  have t59 : tg h55 a54 = 16 := by rw [e57, e56]; exact tg_nO
                  refine x_dup dX3_atom_219 (rv_cat _) ?_
                  refine x_bipush (v := 57) dX3_atom_220 (by decide) ?_
                  refine x_aload_n 0 dX3_atom_222 rfl ?_
                  obtain ⟨g60, g61, hq⟩ := hq
                  refine x_callI (Yc := YX15_init) (as := [.int 57, rv x37]) (st := [rv a54]) q1749 miX15_init (by rw [t59]; decide) rfl dX3_atom_223 (xle (xal1 (rv_cat _) (xal1 rfl (xal1 (rv_cat _) xal0))) (by decide)) (xfr g60) (xlo (xsw1 (rv_cat _) xsw0) (by decide) g61) (xKv hq (fun h62 hq e64 => ?_) (fun _ _ q _ => q))
                  replace hq := hq e64
                  refine x_astore_n (lv' := [(2, rv a54), (1, rv x37), (0, rv x0)]) dX3_atom_226 (by decide) (by first | rfl | (simp [rv_cat, Value.category]; done) | (simp [rv_cat, Value.category]; decide)) ?_
                  refine xP.pick (lv' := [(0, rv x0), (2, rv a54)]) [2, 0] rfl ?_
                  exact hq
                · replace hq := hq.2 c45
                  refine x_aload_n 1 dX3_atom_206 rfl ?_
                  refine x_aload_n 0 dX3_atom_207 rfl ?_
                  have t65 : tg h42 x0 = 4 := e44.tg t39 (by decide)
                  obtain ⟨g66, g67, hq⟩ := hq
                  refine x_callV (Yc := YX3_variable) (as := [rv x37]) (st := []) q1924 mvX3_variable t65 rfl dX3_atom_208 (xle (xal1 (rv_cat _) (xal1 (rv_cat _) xal0)) (by decide)) (xfr g66) (xlo xsw0 (by decide) g67) (xKr hq (fun x69 h68 hq e70 => ?_) (fun _ _ q _ => q))
                  replace hq := hq e70
                  exact x_aret rfl xty_O dX3_atom_211 hq
              · replace hq := hq.2 c32
                refine x_aload_n 0 dX3_atom_184 rfl ?_
                have t71 : tg h29 x0 = 4 := e31.tg t26 (by decide)
                obtain ⟨g72, g73, hq⟩ := hq
                refine x_callV (Yc := YX3_make) (as := []) (st := []) q1950 mvX3_make t71 rfl dX3_atom_185 (xle (xal1 (rv_cat _) xal0) (by decide)) (xfr g72) (xlo xsw0 (by decide) g73) (xKr hq (fun x75 h74 hq e76 => ?_) (fun _ _ q _ => q))
                replace hq := hq e76
                exact x_aret rfl xty_O dX3_atom_188 hq
            · replace hq := hq.2 c25
              obtain ⟨g77, g78, hq⟩ := hq
              obtain ⟨a79, e81⟩ : ∃ y, y = nx h22 + 1 := ⟨_, rfl⟩
              obtain ⟨h80, e82⟩ : ∃ y, y = nO h22 16 6 := ⟨_, rfl⟩
              refine x_new' cdX3_71 dX3_atom_145 g77 g78 e81 e82 (fun f83 => ?_)
              replace hq := hq a79 h80 e81 e82 f83
              have t84 : tg h80 a79 = 16 := by rw [e82, e81]; exact tg_nO
              refine x_dup dX3_atom_148 (rv_cat _) ?_
              refine x_bipush (v := 67) dX3_atom_149 (by decide) ?_
              refine x_aload_n 0 dX3_atom_151 rfl ?_
              have t85 : tg h22 x0 = 4 := e24.tg t19 (by decide)
              have t86 : tg h80 x0 = 4 := by rw [e82]; exact tg_nO_ne e81 f83 t85 (by decide)
              obtain ⟨g87, g88, hq⟩ := hq
              refine x_callV (Yc := YX3_take) (as := []) (st := [.int 67, rv a79, rv a79]) q1738 mvX3_take t86 rfl dX3_atom_152 (xle (xal1 (rv_cat _) xal0) (by decide)) (xfr g87) (xlo (xsw1 rfl (xsw1 (rv_cat _) (xsw1 (rv_cat _) xsw0))) (by decide) g88) (xKr hq (fun x90 h89 hq e91 => ?_) (fun _ _ q _ => q))
              replace hq := hq e91
              have t92 : tg h89 a79 = 16 := e91.tg t84 (by decide)
              obtain ⟨g93, g94, hq⟩ := hq
              refine x_callI (Yc := YX15_init) (as := [.int 67, rv x90]) (st := [rv a79]) q1749 miX15_init (by rw [t92]; decide) rfl dX3_atom_155 (xle (xal1 (rv_cat _) (xal1 rfl (xal1 (rv_cat _) xal0))) (by decide)) (xfr g93) (xlo (xsw1 (rv_cat _) xsw0) (by decide) g94) (xKv hq (fun h95 hq e97 => ?_) (fun _ _ q _ => q))
              replace hq := hq e97
              refine x_aload_n 0 dX3_atom_158 rfl ?_
              have t98 : tg h89 x0 = 4 := e91.tg t86 (by decide)
              have t99 : tg h95 x0 = 4 := e97.tg t98 (by decide)
              obtain ⟨g100, g101, hq⟩ := hq
              refine x_callV (Yc := YX3_e) (as := []) (st := [rv a79]) q1928 mvX3_e t99 rfl dX3_atom_159 (xle (xal1 (rv_cat _) xal0) (by decide)) (xfr g100) (xlo (xsw1 (rv_cat _) xsw0) (by decide) g101) (xKr hq (fun x103 h102 hq e104 => ?_) (fun _ _ q _ => q))
              replace hq := hq e104
              have t105 : tg h95 a79 = 16 := e97.tg t92 (by decide)
              have t106 : tg h102 a79 = 16 := e104.tg t105 (by decide)
              obtain ⟨g107, g108, hq⟩ := hq
              refine x_callV (Yc := YX15_add) (as := [rv x103]) (st := []) q1795 mvX15_add t106 rfl dX3_atom_162 (xle (xal1 (rv_cat _) (xal1 (rv_cat _) xal0)) (by decide)) (xfr g107) (xlo xsw0 (by decide) g108) (xKr hq (fun x110 h109 hq e111 => ?_) (fun _ _ q _ => q))
              replace hq := hq e111
              refine x_astore_n (lv' := [(1, rv x110), (0, rv x0)]) dX3_atom_165 (by decide) (by first | rfl | (simp [rv_cat, Value.category]; done) | (simp [rv_cat, Value.category]; decide)) ?_
              refine x_aload_n 1 dX3_atom_166 rfl ?_
              refine x_ldcS (n := 61) 70 srX3_111 dX3_atom_167 ?_
              have t112 : tg h102 x0 = 4 := e104.tg t99 (by decide)
              have t113 : tg h109 x0 = 4 := e111.tg t112 (by decide)
              obtain ⟨g114, g115, hq⟩ := hq
              refine x_callV (Yc := YX3_need) (as := [rv (tx G 61)]) (st := []) q1719 mvX3_need t113 rfl dX3_atom_169 (xle (xal1 (rv_cat _) (xal1 (rv_cat _) xal0)) (by decide)) (xfr g114) (xlo xsw0 (by decide) g115) (xKr hq (fun x117 h116 hq e118 => ?_) (fun _ _ q _ => q))
              replace hq := hq e118
              refine x_pop dX3_atom_172 (rv_cat _) ?_
              refine x_aload_n 0 dX3_atom_173 rfl ?_
              exact x_aret rfl xty_O dX3_atom_174 hq
          · replace hq := hq.2 c18
            obtain ⟨g119, g120, hq⟩ := hq
            obtain ⟨a121, e123⟩ : ∃ y, y = nx h15 + 1 := ⟨_, rfl⟩
            obtain ⟨h122, e124⟩ : ∃ y, y = nO h15 16 6 := ⟨_, rfl⟩
            refine x_new' cdX3_71 dX3_atom_115 g119 g120 e123 e124 (fun f125 => ?_)
            replace hq := hq a121 h122 e123 e124 f125
            have t126 : tg h122 a121 = 16 := by rw [e124, e123]; exact tg_nO
            refine x_dup dX3_atom_118 (rv_cat _) ?_
            refine x_bipush (v := 54) dX3_atom_119 (by decide) ?_
            refine x_aload_n 0 dX3_atom_121 rfl ?_
            have t127 : tg h15 x0 = 4 := e17.tg t12 (by decide)
            have t128 : tg h122 x0 = 4 := by rw [e124]; exact tg_nO_ne e123 f125 t127 (by decide)
            obtain ⟨g129, g130, hq⟩ := hq
            refine x_callV (Yc := YX3_take) (as := []) (st := [.int 54, rv a121, rv a121]) q1738 mvX3_take t128 rfl dX3_atom_122 (xle (xal1 (rv_cat _) xal0) (by decide)) (xfr g129) (xlo (xsw1 rfl (xsw1 (rv_cat _) (xsw1 (rv_cat _) xsw0))) (by decide) g130) (xKr hq (fun x132 h131 hq e133 => ?_) (fun _ _ q _ => q))
            replace hq := hq e133
            have t134 : tg h131 a121 = 16 := e133.tg t126 (by decide)
            obtain ⟨g135, g136, hq⟩ := hq
            refine x_callI (Yc := YX15_init) (as := [.int 54, rv x132]) (st := [rv a121]) q1749 miX15_init (by rw [t134]; decide) rfl dX3_atom_125 (xle (xal1 (rv_cat _) (xal1 rfl (xal1 (rv_cat _) xal0))) (by decide)) (xfr g135) (xlo (xsw1 (rv_cat _) xsw0) (by decide) g136) (xKv hq (fun h137 hq e139 => ?_) (fun _ _ q _ => q))
            replace hq := hq e139
            refine x_aload_n 0 dX3_atom_128 rfl ?_
            have t140 : tg h131 x0 = 4 := e133.tg t128 (by decide)
            have t141 : tg h137 x0 = 4 := e139.tg t140 (by decide)
            obtain ⟨g142, g143, hq⟩ := hq
            refine x_callV (Yc := YX3_factor) (as := []) (st := [rv a121]) q1940 mvX3_factor t141 rfl dX3_atom_129 (xle (xal1 (rv_cat _) xal0) (by decide)) (xfr g142) (xlo (xsw1 (rv_cat _) xsw0) (by decide) g143) (xKr hq (fun x145 h144 hq e146 => ?_) (fun _ _ q _ => q))
            replace hq := hq e146
            have t147 : tg h137 a121 = 16 := e139.tg t134 (by decide)
            have t148 : tg h144 a121 = 16 := e146.tg t147 (by decide)
            obtain ⟨g149, g150, hq⟩ := hq
            refine x_callV (Yc := YX15_add) (as := [rv x145]) (st := []) q1795 mvX15_add t148 rfl dX3_atom_132 (xle (xal1 (rv_cat _) (xal1 (rv_cat _) xal0)) (by decide)) (xfr g149) (xlo xsw0 (by decide) g150) (xKr hq (fun x152 h151 hq e153 => ?_) (fun _ _ q _ => q))
            replace hq := hq e153
            exact x_aret rfl xty_O dX3_atom_135 hq
        · replace hq := hq.2 c11
          obtain ⟨g154, g155, hq⟩ := hq
          obtain ⟨a156, e158⟩ : ∃ y, y = nx h8 + 1 := ⟨_, rfl⟩
          obtain ⟨h157, e159⟩ : ∃ y, y = nO h8 16 6 := ⟨_, rfl⟩
          refine x_new' cdX3_71 dX3_atom_91 g154 g155 e158 e159 (fun f160 => ?_)
          replace hq := hq a156 h157 e158 e159 f160
          have t161 : tg h157 a156 = 16 := by rw [e159, e158]; exact tg_nO
          refine x_dup dX3_atom_94 (rv_cat _) ?_
          refine x_bipush (v := 53) dX3_atom_95 (by decide) ?_
          refine x_aload_n 0 dX3_atom_97 rfl ?_
          have t162 : tg h8 x0 = 4 := e10.tg g1 (by decide)
          have t163 : tg h157 x0 = 4 := by rw [e159]; exact tg_nO_ne e158 f160 t162 (by decide)
          obtain ⟨g164, g165, hq⟩ := hq
          refine x_callV (Yc := YX3_take) (as := []) (st := [.int 53, rv a156, rv a156]) q1738 mvX3_take t163 rfl dX3_atom_98 (xle (xal1 (rv_cat _) xal0) (by decide)) (xfr g164) (xlo (xsw1 rfl (xsw1 (rv_cat _) (xsw1 (rv_cat _) xsw0))) (by decide) g165) (xKr hq (fun x167 h166 hq e168 => ?_) (fun _ _ q _ => q))
          replace hq := hq e168
          have t169 : tg h166 a156 = 16 := e168.tg t161 (by decide)
          obtain ⟨g170, g171, hq⟩ := hq
          refine x_callI (Yc := YX15_init) (as := [.int 53, rv x167]) (st := [rv a156]) q1749 miX15_init (by rw [t169]; decide) rfl dX3_atom_101 (xle (xal1 (rv_cat _) (xal1 rfl (xal1 (rv_cat _) xal0))) (by decide)) (xfr g170) (xlo (xsw1 (rv_cat _) xsw0) (by decide) g171) (xKv hq (fun h172 hq e174 => ?_) (fun _ _ q _ => q))
          replace hq := hq e174
          exact x_aret rfl xty_O dX3_atom_104 hq
      · replace hq := hq.2 c5
        obtain ⟨g175, g176, hq⟩ := hq
        obtain ⟨a177, e179⟩ : ∃ y, y = nx h + 1 := ⟨_, rfl⟩
        obtain ⟨h178, e180⟩ : ∃ y, y = nO h 16 6 := ⟨_, rfl⟩
        refine x_new' cdX3_71 dX3_atom_67 g175 g176 e179 e180 (fun f181 => ?_)
        replace hq := hq a177 h178 e179 e180 f181
        have t182 : tg h178 a177 = 16 := by rw [e180, e179]; exact tg_nO
        refine x_dup dX3_atom_70 (rv_cat _) ?_
        refine x_bipush (v := 52) dX3_atom_71 (by decide) ?_
        refine x_aload_n 0 dX3_atom_73 rfl ?_
        have t183 : tg h178 x0 = 4 := by rw [e180]; exact tg_nO_ne e179 f181 g1 (by decide)
        obtain ⟨g184, g185, hq⟩ := hq
        refine x_callV (Yc := YX3_take) (as := []) (st := [.int 52, rv a177, rv a177]) q1738 mvX3_take t183 rfl dX3_atom_74 (xle (xal1 (rv_cat _) xal0) (by decide)) (xfr g184) (xlo (xsw1 rfl (xsw1 (rv_cat _) (xsw1 (rv_cat _) xsw0))) (by decide) g185) (xKr hq (fun x187 h186 hq e188 => ?_) (fun _ _ q _ => q))
        replace hq := hq e188
        have t189 : tg h186 a177 = 16 := e188.tg t182 (by decide)
        obtain ⟨g190, g191, hq⟩ := hq
        refine x_callI (Yc := YX15_init) (as := [.int 52, rv x187]) (st := [rv a177]) q1749 miX15_init (by rw [t189]; decide) rfl dX3_atom_77 (xle (xal1 (rv_cat _) (xal1 rfl (xal1 (rv_cat _) xal0))) (by decide)) (xfr g190) (xlo (xsw1 (rv_cat _) xsw0) (by decide) g191) (xKv hq (fun h192 hq e194 => ?_) (fun _ _ q _ => q))
        replace hq := hq e194
        exact x_aret rfl xty_O dX3_atom_80 hq
    · replace hq := hq.2 c4
      obtain ⟨g195, g196, hq⟩ := hq
      obtain ⟨a197, e199⟩ : ∃ y, y = nx h + 1 := ⟨_, rfl⟩
      obtain ⟨h198, e200⟩ : ∃ y, y = nO h 16 6 := ⟨_, rfl⟩
      refine x_new' cdX3_71 dX3_atom_40 g195 g196 e199 e200 (fun f201 => ?_)
      replace hq := hq a197 h198 e199 e200 f201
      have t202 : tg h198 a197 = 16 := by rw [e200, e199]; exact tg_nO
      refine x_dup dX3_atom_43 (rv_cat _) ?_
      refine x_bipush (v := 51) dX3_atom_44 (by decide) ?_
      refine x_aload_n 0 dX3_atom_46 rfl ?_
      have t203 : tg h198 x0 = 4 := by rw [e200]; exact tg_nO_ne e199 f201 g1 (by decide)
      obtain ⟨g204, g205, hq⟩ := hq
      refine x_callV (Yc := YX3_take) (as := []) (st := [.int 51, rv a197, rv a197]) q1738 mvX3_take t203 rfl dX3_atom_47 (xle (xal1 (rv_cat _) xal0) (by decide)) (xfr g204) (xlo (xsw1 rfl (xsw1 (rv_cat _) (xsw1 (rv_cat _) xsw0))) (by decide) g205) (xKr hq (fun x207 h206 hq e208 => ?_) (fun _ _ q _ => q))
      replace hq := hq e208
      have t209 : tg h206 a197 = 16 := e208.tg t202 (by decide)
      obtain ⟨g210, g211, hq⟩ := hq
      refine x_callI (Yc := YX15_init) (as := [.int 51, rv x207]) (st := [rv a197]) q1749 miX15_init (by rw [t209]; decide) rfl dX3_atom_50 (xle (xal1 (rv_cat _) (xal1 rfl (xal1 (rv_cat _) xal0))) (by decide)) (xfr g210) (xlo (xsw1 (rv_cat _) xsw0) (by decide) g211) (xKv hq (fun h212 hq e214 => ?_) (fun _ _ q _ => q))
      replace hq := hq e214
      exact x_aret rfl xty_O dX3_atom_53 hq
  · replace hq := hq.2 c3
    obtain ⟨g215, g216, hq⟩ := hq
    obtain ⟨a217, e219⟩ : ∃ y, y = nx h + 1 := ⟨_, rfl⟩
    obtain ⟨h218, e220⟩ : ∃ y, y = nO h 16 6 := ⟨_, rfl⟩
    refine x_new' cdX3_71 dX3_atom_13 g215 g216 e219 e220 (fun f221 => ?_)
    replace hq := hq a217 h218 e219 e220 f221
    have t222 : tg h218 a217 = 16 := by rw [e220, e219]; exact tg_nO
    refine x_dup dX3_atom_16 (rv_cat _) ?_
    refine x_bipush (v := 50) dX3_atom_17 (by decide) ?_
    refine x_aload_n 0 dX3_atom_19 rfl ?_
    have t223 : tg h218 x0 = 4 := by rw [e220]; exact tg_nO_ne e219 f221 g1 (by decide)
    obtain ⟨g224, g225, hq⟩ := hq
    refine x_callV (Yc := YX3_take) (as := []) (st := [.int 50, rv a217, rv a217]) q1738 mvX3_take t223 rfl dX3_atom_20 (xle (xal1 (rv_cat _) xal0) (by decide)) (xfr g224) (xlo (xsw1 rfl (xsw1 (rv_cat _) (xsw1 (rv_cat _) xsw0))) (by decide) g225) (xKr hq (fun x227 h226 hq e228 => ?_) (fun _ _ q _ => q))
    replace hq := hq e228
    have t229 : tg h226 a217 = 16 := e228.tg t222 (by decide)
    obtain ⟨g230, g231, hq⟩ := hq
    refine x_callI (Yc := YX15_init) (as := [.int 50, rv x227]) (st := [rv a217]) q1749 miX15_init (by rw [t229]; decide) rfl dX3_atom_23 (xle (xal1 (rv_cat _) (xal1 rfl (xal1 (rv_cat _) xal0))) (by decide)) (xfr g230) (xlo (xsw1 (rv_cat _) xsw0) (by decide) g231) (xKv hq (fun h232 hq e234 => ?_) (fun _ _ q _ => q))
    replace hq := hq e234
    exact x_aret rfl xty_O dX3_atom_26 hq
theorem rX3_atom {G : xG} {fr lo : Nat} {x0 : Nat} {h : xH} {Q : Outcome → xH → Prop} (hq : bX3_atom G fr lo x0 h Q) : xR G YX3_atom fr lo [rv x0] h Q := by
  show xP _ _ _ _ _ (lv_args 0 _) _ _ _
  rw [show lv_args 0 [rv x0] = [(0, rv x0)] from (xla1 (rv_cat _) xla0)]
  exact uX3_atom hq
set_option maxRecDepth 100000 in
theorem dX3_make_0 : decode cX3_make 0 = .ok (.new 71, 3) := by decide +kernel
set_option maxRecDepth 100000 in
theorem dX3_make_3 : decode cX3_make 3 = .ok (.dup, 1) := by decide +kernel
set_option maxRecDepth 100000 in
theorem dX3_make_4 : decode cX3_make 4 = .ok (.bipush 55, 2) := by decide +kernel
set_option maxRecDepth 100000 in
theorem dX3_make_6 : decode cX3_make 6 = .ok (.aload_n 0, 1) := by decide +kernel
set_option maxRecDepth 100000 in
theorem dX3_make_7 : decode cX3_make 7 = .ok (.ldc 221, 2) := by decide +kernel
set_option maxRecDepth 100000 in
theorem dX3_make_9 : decode cX3_make 9 = .ok (.invokevirtual 99, 3) := by decide +kernel
set_option maxRecDepth 100000 in
theorem dX3_make_12 : decode cX3_make 12 = .ok (.invokespecial 77, 3) := by decide +kernel
set_option maxRecDepth 100000 in
theorem dX3_make_15 : decode cX3_make 15 = .ok (.astore_n 1, 1) := by decide +kernel
set_option maxRecDepth 100000 in
theorem dX3_make_16 : decode cX3_make 16 = .ok (.aload_n 0, 1) := by decide +kernel
set_option maxRecDepth 100000 in
theorem dX3_make_17 : decode cX3_make 17 = .ok (.ldc 223, 2) := by decide +kernel
set_option maxRecDepth 100000 in
theorem dX3_make_19 : decode cX3_make 19 = .ok (.invokevirtual 90, 3) := by decide +kernel
set_option maxRecDepth 100000 in
theorem dX3_make_22 : decode cX3_make 22 = .ok (.ifCond .eq 5, 3) := by decide +kernel
set_option maxRecDepth 100000 in
theorem dX3_make_25 : decode cX3_make 25 = .ok (.aload_n 1, 1) := by decide +kernel
set_option maxRecDepth 100000 in
theorem dX3_make_26 : decode cX3_make 26 = .ok (.areturn, 1) := by decide +kernel
set_option maxRecDepth 100000 in
theorem dX3_make_27 : decode cX3_make 27 = .ok (.aload_n 0, 1) := by decide +kernel
set_option maxRecDepth 100000 in
theorem dX3_make_28 : decode cX3_make 28 = .ok (.invokevirtual 261, 3) := by decide +kernel
set_option maxRecDepth 100000 in
theorem dX3_make_31 : decode cX3_make 31 = .ok (.astore_n 2, 1) := by decide +kernel
set_option maxRecDepth 100000 in
theorem dX3_make_32 : decode cX3_make 32 = .ok (.aload_n 0, 1) := by decide +kernel
set_option maxRecDepth 100000 in
theorem dX3_make_33 : decode cX3_make 33 = .ok (.getfield 25, 3) := by decide +kernel
set_option maxRecDepth 100000 in
theorem dX3_make_36 : decode cX3_make 36 = .ok (.astore_n 3, 1) := by decide +kernel
set_option maxRecDepth 100000 in
theorem dX3_make_37 : decode cX3_make 37 = .ok (.aload_n 1, 1) := by decide +kernel
set_option maxRecDepth 100000 in
theorem dX3_make_38 : decode cX3_make 38 = .ok (.aload_n 0, 1) := by decide +kernel
set_option maxRecDepth 100000 in
theorem dX3_make_39 : decode cX3_make 39 = .ok (.ldc 236, 2) := by decide +kernel
set_option maxRecDepth 100000 in
theorem dX3_make_41 : decode cX3_make 41 = .ok (.invokevirtual 90, 3) := by decide +kernel
set_option maxRecDepth 100000 in
theorem dX3_make_44 : decode cX3_make 44 = .ok (.ifCond .eq 27, 3) := by decide +kernel
set_option maxRecDepth 100000 in
theorem dX3_make_47 : decode cX3_make 47 = .ok (.new 71, 3) := by decide +kernel
set_option maxRecDepth 100000 in
theorem dX3_make_50 : decode cX3_make 50 = .ok (.dup, 1) := by decide +kernel
set_option maxRecDepth 100000 in
theorem dX3_make_51 : decode cX3_make 51 = .ok (.bipush 56, 2) := by decide +kernel
set_option maxRecDepth 100000 in
theorem dX3_make_53 : decode cX3_make 53 = .ok (.aload_n 3, 1) := by decide +kernel
set_option maxRecDepth 100000 in
theorem dX3_make_54 : decode cX3_make 54 = .ok (.invokespecial 77, 3) := by decide +kernel
set_option maxRecDepth 100000 in
theorem dX3_make_57 : decode cX3_make 57 = .ok (.aload_n 2, 1) := by decide +kernel
set_option maxRecDepth 100000 in
theorem dX3_make_58 : decode cX3_make 58 = .ok (.invokevirtual 84, 3) := by decide +kernel
set_option maxRecDepth 100000 in
theorem dX3_make_61 : decode cX3_make 61 = .ok (.aload_n 0, 1) := by decide +kernel
set_option maxRecDepth 100000 in
theorem dX3_make_62 : decode cX3_make 62 = .ok (.invokevirtual 261, 3) := by decide +kernel
set_option maxRecDepth 100000 in
theorem dX3_make_65 : decode cX3_make 65 = .ok (.invokevirtual 84, 3) := by decide +kernel
set_option maxRecDepth 100000 in
theorem dX3_make_68 : decode cX3_make 68 = .ok (.goto 4, 3) := by decide +kernel
set_option maxRecDepth 100000 in
theorem dX3_make_71 : decode cX3_make 71 = .ok (.aload_n 2, 1) := by decide +kernel
set_option maxRecDepth 100000 in
theorem dX3_make_72 : decode cX3_make 72 = .ok (.invokevirtual 84, 3) := by decide +kernel
set_option maxRecDepth 100000 in
theorem dX3_make_75 : decode cX3_make 75 = .ok (.pop, 1) := by decide +kernel
set_option maxRecDepth 100000 in
theorem dX3_make_76 : decode cX3_make 76 = .ok (.aload_n 0, 1) := by decide +kernel
set_option maxRecDepth 100000 in
theorem dX3_make_77 : decode cX3_make 77 = .ok (.ldc 88, 2) := by decide +kernel
set_option maxRecDepth 100000 in
theorem dX3_make_79 : decode cX3_make 79 = .ok (.invokevirtual 90, 3) := by decide +kernel
set_option maxRecDepth 100000 in
theorem dX3_make_82 : decode cX3_make 82 = .ok (.ifCond .ne (-55), 3) := by decide +kernel
set_option maxRecDepth 100000 in
theorem dX3_make_85 : decode cX3_make 85 = .ok (.aload_n 0, 1) := by decide +kernel
set_option maxRecDepth 100000 in
theorem dX3_make_86 : decode cX3_make 86 = .ok (.ldc 223, 2) := by decide +kernel
set_option maxRecDepth 100000 in
theorem dX3_make_88 : decode cX3_make 88 = .ok (.invokevirtual 99, 3) := by decide +kernel
set_option maxRecDepth 100000 in
theorem dX3_make_91 : decode cX3_make 91 = .ok (.pop, 1) := by decide +kernel
set_option maxRecDepth 100000 in
theorem dX3_make_92 : decode cX3_make 92 = .ok (.aload_n 1, 1) := by decide +kernel
set_option maxRecDepth 100000 in
theorem dX3_make_93 : decode cX3_make 93 = .ok (.areturn, 1) := by decide +kernel
def lX3_make_27 (G : xG) (fr lo : Nat) (x0 : Nat) (x1 : Nat) (h : xH) (Q : Outcome → xH → Prop) : Prop := xP G YX3_make fr lo 27 [(0, rv x0), (1, rv x1)] [] h Q
set_option maxRecDepth 100000 in
def bX3_make_72 (G : xG) (fr lo : Nat) (x0 : Nat) (x1 : Nat) (s0 : Nat) (s1 : Nat) (h : xH) (Q : Outcome → xH → Prop) : Prop := tg h s1 = 16 ∧ 1 ≤ fr ∧ 13 ≤ lo ∧ xRr G YX15_add (fr - 1) (lo - 13) [rv s1, rv s0] h (fun x5 h4 => xext h h4 → tg h4 x0 = 4 ∧ 1 ≤ fr ∧ 13 ≤ lo ∧ xRi G YX3_has (fr - 1) (lo - 13) [rv x0, rv (tx G 63)] h4 (fun x11 h10 => xext h4 h10 → ((¬ x11 = 0 → lX3_make_27 G fr lo x0 x1 h10 Q) ∧ (x11 = 0 → 1 ≤ fr ∧ 13 ≤ lo ∧ xRr G YX3_need (fr - 1) (lo - 13) [rv x0, rv (tx G 47)] h10 (fun x18 h17 => xext h10 h17 → Q (.returned (some (rv x1))) h17) (fun r h2 => Q (.threw r) h2)))) (fun r h2 => Q (.threw r) h2)) (fun r h2 => Q (.threw r) h2)
set_option maxRecDepth 100000 in
theorem uX3_make_72 {G : xG} {fr lo : Nat} {x0 : Nat} {x1 : Nat} {s0 : Nat} {s1 : Nat} {h : xH} {Q : Outcome → xH → Prop} (hq : bX3_make_72 G fr lo x0 x1 s0 s1 h Q) : xP G YX3_make fr lo 72 [(0, rv x0), (1, rv x1)] [rv s0, rv s1] h Q := by
  unfold bX3_make_72 at hq
  obtain ⟨g1, hq⟩ := hq
  obtain ⟨g2, g3, hq⟩ := hq
  refine x_callV (Yc := YX15_add) (as := [rv s0]) (st := []) q1795 mvX15_add g1 rfl dX3_make_72 (xle (xal1 (rv_cat _) (xal1 (rv_cat _) xal0)) (by decide)) (xfr g2) (xlo xsw0 (by decide) g3) (xKr hq (fun x5 h4 hq e6 => ?_) (fun _ _ q _ => q))
  replace hq := hq e6
  refine x_pop dX3_make_75 (rv_cat _) ?_
  refine x_aload_n 0 dX3_make_76 rfl ?_
  refine x_ldcS (n := 63) 69 srX3_88 dX3_make_77 ?_
  obtain ⟨g7, hq⟩ := hq
  obtain ⟨g8, g9, hq⟩ := hq
  refine x_callV (Yc := YX3_has) (as := [rv (tx G 63)]) (st := []) q1783 mvX3_has g7 rfl dX3_make_79 (xle (xal1 (rv_cat _) (xal1 (rv_cat _) xal0)) (by decide)) (xfr g8) (xlo xsw0 (by decide) g9) (xKi hq (fun x11 h10 hq e12 => ?_) (fun _ _ q _ => q))
  replace hq := hq e12
  refine x_if_ne (tgt := 27) dX3_make_82 (by decide) (fun c13 => ?_) (fun c13 => ?_)
  · replace hq := hq.1 c13
    exact hq
  · replace hq := hq.2 c13
    refine x_aload_n 0 dX3_make_85 rfl ?_
    refine x_ldcS (n := 47) 83 srX3_223 dX3_make_86 ?_
    have t14 : tg h10 x0 = 4 := e12.tg g7 (by decide)
    obtain ⟨g15, g16, hq⟩ := hq
    refine x_callV (Yc := YX3_need) (as := [rv (tx G 47)]) (st := []) q1719 mvX3_need t14 rfl dX3_make_88 (xle (xal1 (rv_cat _) (xal1 (rv_cat _) xal0)) (by decide)) (xfr g15) (xlo xsw0 (by decide) g16) (xKr hq (fun x18 h17 hq e19 => ?_) (fun _ _ q _ => q))
    replace hq := hq e19
    refine x_pop dX3_make_91 (rv_cat _) ?_
    refine x_aload_n 1 dX3_make_92 rfl ?_
    exact x_aret rfl xty_O dX3_make_93 hq
set_option maxRecDepth 100000 in
def bX3_make_27 (G : xG) (fr lo : Nat) (x0 : Nat) (x1 : Nat) (h : xH) (Q : Outcome → xH → Prop) : Prop := tg h x0 = 4 ∧ 1 ≤ fr ∧ 13 ≤ lo ∧ xRr G YX3_e (fr - 1) (lo - 13) [rv x0] h (fun x5 h4 => xext h h4 → 1 ≤ fr ∧ 14 ≤ lo ∧ xRi G YX3_has (fr - 1) (lo - 14) [rv x0, rv (tx G 52)] h4 (fun x11 h10 => xext h4 h10 → ((x11 = 0 → bX3_make_72 G fr lo x0 x1 x5 x1 h10 Q) ∧ (¬ x11 = 0 → nx h10 + 1 ≤ xGN G ∧ us h10 + 6 ≤ xGU G ∧ (∀ (a16 : Nat) (h17 : xH), a16 = nx h10 + 1 → h17 = nO h10 16 6 → xfresh h10 a16 → 1 ≤ fr ∧ 16 ≤ lo ∧ xRv G YX15_init (fr - 1) (lo - 16) [rv a16, .int 56, rv (fR h4 x0 770)] h17 (fun h24 => xext h17 h24 → 1 ≤ fr ∧ 14 ≤ lo ∧ xRr G YX15_add (fr - 1) (lo - 14) [rv a16, rv x5] h24 (fun x31 h30 => xext h24 h30 → 1 ≤ fr ∧ 15 ≤ lo ∧ xRr G YX3_e (fr - 1) (lo - 15) [rv x0] h30 (fun x40 h39 => xext h30 h39 → tg h39 x31 = 16 ∧ 1 ≤ fr ∧ 14 ≤ lo ∧ xRr G YX15_add (fr - 1) (lo - 14) [rv x31, rv x40] h39 (fun x46 h45 => xext h39 h45 → bX3_make_72 G fr lo x0 x1 x46 x1 h45 Q) (fun r h2 => Q (.threw r) h2)) (fun r h2 => Q (.threw r) h2)) (fun r h2 => Q (.threw r) h2)) (fun r h2 => Q (.threw r) h2))))) (fun r h2 => Q (.threw r) h2)) (fun r h2 => Q (.threw r) h2)
set_option maxRecDepth 100000 in
theorem uX3_make_27 {G : xG} {fr lo : Nat} {x0 : Nat} {x1 : Nat} {h : xH} {Q : Outcome → xH → Prop} (hq : bX3_make_27 G fr lo x0 x1 h Q) : xP G YX3_make fr lo 27 [(0, rv x0), (1, rv x1)] [] h Q := by
  unfold bX3_make_27 at hq
  refine x_aload_n 0 dX3_make_27 rfl ?_
  obtain ⟨g1, hq⟩ := hq
  obtain ⟨g2, g3, hq⟩ := hq
  refine x_callV (Yc := YX3_e) (as := []) (st := []) q1928 mvX3_e g1 rfl dX3_make_28 (xle (xal1 (rv_cat _) xal0) (by decide)) (xfr g2) (xlo xsw0 (by decide) g3) (xKr hq (fun x5 h4 hq e6 => ?_) (fun _ _ q _ => q))
  replace hq := hq e6
  refine x_astore_n (lv' := [(2, rv x5), (0, rv x0), (1, rv x1)]) dX3_make_31 (by decide) (by first | rfl | (simp [rv_cat, Value.category]; done) | (simp [rv_cat, Value.category]; decide)) ?_
  refine x_aload_n 1 dX3_make_32 rfl ?_
  have t7 : tg h4 x0 = 4 := e6.tg g1 (by decide)
  refine x_get (v := rv (fR h4 x0 770)) fdX3_25 dX3_make_33 t7 rfl ?_
  refine x_astore_n (lv' := [(3, rv (fR h4 x0 770)), (2, rv x5), (0, rv x0), (1, rv x1)]) dX3_make_36 (by decide) (by first | rfl | (simp [rv_cat, Value.category]; done) | (simp [rv_cat, Value.category]; decide)) ?_
  refine x_aload_n 3 dX3_make_37 rfl ?_
  refine x_aload_n 2 dX3_make_38 rfl ?_
  refine x_ldcS (n := 52) 82 srX3_236 dX3_make_39 ?_
  obtain ⟨g8, g9, hq⟩ := hq
  refine x_callV (Yc := YX3_has) (as := [rv (tx G 52)]) (st := [rv x1]) q1783 mvX3_has t7 rfl dX3_make_41 (xle (xal1 (rv_cat _) (xal1 (rv_cat _) xal0)) (by decide)) (xfr g8) (xlo (xsw1 (rv_cat _) xsw0) (by decide) g9) (xKi hq (fun x11 h10 hq e12 => ?_) (fun _ _ q _ => q))
  replace hq := hq e12
  refine x_if_eq (tgt := 71) dX3_make_44 (by decide) (fun c13 => ?_) (fun c13 => ?_)
  · replace hq := hq.1 c13
    refine x_aload_n 1 dX3_make_71 rfl ?_
    refine xP.pick (lv' := [(0, rv x0), (1, rv x1)]) [2, 3] rfl ?_
    exact uX3_make_72 hq
  · replace hq := hq.2 c13
    obtain ⟨g14, g15, hq⟩ := hq
    obtain ⟨a16, e18⟩ : ∃ y, y = nx h10 + 1 := ⟨_, rfl⟩
    obtain ⟨h17, e19⟩ : ∃ y, y = nO h10 16 6 := ⟨_, rfl⟩
    refine x_new' cdX3_71 dX3_make_47 g14 g15 e18 e19 (fun f20 => ?_)
    replace hq := hq a16 h17 e18 e19 f20
    have t21 : tg h17 a16 = 16 := by rw [e19, e18]; exact tg_nO
    refine x_dup dX3_make_50 (rv_cat _) ?_
    refine x_bipush (v := 56) dX3_make_51 (by decide) ?_
    refine x_aload_n 0 dX3_make_53 rfl ?_
    obtain ⟨g22, g23, hq⟩ := hq
    refine x_callI (Yc := YX15_init) (as := [.int 56, rv (fR h4 x0 770)]) (st := [rv a16, rv x1]) q1749 miX15_init (by rw [t21]; decide) rfl dX3_make_54 (xle (xal1 (rv_cat _) (xal1 rfl (xal1 (rv_cat _) xal0))) (by decide)) (xfr g22) (xlo (xsw1 (rv_cat _) (xsw1 (rv_cat _) xsw0)) (by decide) g23) (xKv hq (fun h24 hq e26 => ?_) (fun _ _ q _ => q))
    replace hq := hq e26
    refine x_aload_n 1 dX3_make_57 rfl ?_
    have t27 : tg h24 a16 = 16 := e26.tg t21 (by decide)
    obtain ⟨g28, g29, hq⟩ := hq
    refine x_callV (Yc := YX15_add) (as := [rv x5]) (st := [rv x1]) q1795 mvX15_add t27 rfl dX3_make_58 (xle (xal1 (rv_cat _) (xal1 (rv_cat _) xal0)) (by decide)) (xfr g28) (xlo (xsw1 (rv_cat _) xsw0) (by decide) g29) (xKr hq (fun x31 h30 hq e32 => ?_) (fun _ _ q _ => q))
    replace hq := hq e32
    refine x_aload_n 2 dX3_make_61 rfl ?_
    have t33 : tg h10 x0 = 4 := e12.tg t7 (by decide)
    have t34 : tg h17 x0 = 4 := by rw [e19]; exact tg_nO_ne e18 f20 t33 (by decide)
    have t35 : tg h24 x0 = 4 := e26.tg t34 (by decide)
    have t36 : tg h30 x0 = 4 := e32.tg t35 (by decide)
    obtain ⟨g37, g38, hq⟩ := hq
    refine x_callV (Yc := YX3_e) (as := []) (st := [rv x31, rv x1]) q1928 mvX3_e t36 rfl dX3_make_62 (xle (xal1 (rv_cat _) xal0) (by decide)) (xfr g37) (xlo (xsw1 (rv_cat _) (xsw1 (rv_cat _) xsw0)) (by decide) g38) (xKr hq (fun x40 h39 hq e41 => ?_) (fun _ _ q _ => q))
    replace hq := hq e41
    obtain ⟨g42, hq⟩ := hq
    obtain ⟨g43, g44, hq⟩ := hq
    refine x_callV (Yc := YX15_add) (as := [rv x40]) (st := [rv x1]) q1795 mvX15_add g42 rfl dX3_make_65 (xle (xal1 (rv_cat _) (xal1 (rv_cat _) xal0)) (by decide)) (xfr g43) (xlo (xsw1 (rv_cat _) xsw0) (by decide) g44) (xKr hq (fun x46 h45 hq e47 => ?_) (fun _ _ q _ => q))
    replace hq := hq e47
    refine x_goto (tgt := 72) dX3_make_68 (by decide) ?_
    refine xP.pick (lv' := [(0, rv x0), (1, rv x1)]) [2, 3] rfl ?_
    exact uX3_make_72 hq
set_option maxRecDepth 100000 in
def bX3_make (G : xG) (fr lo : Nat) (x0 : Nat) (h : xH) (Q : Outcome → xH → Prop) : Prop := nx h + 1 ≤ xGN G ∧ us h + 6 ≤ xGU G ∧ (∀ (a3 : Nat) (h4 : xH), a3 = nx h + 1 → h4 = nO h 16 6 → xfresh h a3 → tg h4 x0 = 4 ∧ 1 ≤ fr ∧ 16 ≤ lo ∧ xRr G YX3_need (fr - 1) (lo - 16) [rv x0, rv (tx G 46)] h4 (fun x13 h12 => xext h4 h12 → 1 ≤ fr ∧ 15 ≤ lo ∧ xRv G YX15_init (fr - 1) (lo - 15) [rv a3, .int 55, rv x13] h12 (fun h18 => xext h12 h18 → 1 ≤ fr ∧ 13 ≤ lo ∧ xRi G YX3_has (fr - 1) (lo - 13) [rv x0, rv (tx G 47)] h18 (fun x26 h25 => xext h18 h25 → ((x26 = 0 → lX3_make_27 G fr lo x0 a3 h25 Q) ∧ (¬ x26 = 0 → Q (.returned (some (rv a3))) h25))) (fun r h2 => Q (.threw r) h2)) (fun r h2 => Q (.threw r) h2)) (fun r h2 => Q (.threw r) h2))
set_option maxRecDepth 100000 in
theorem uX3_make {G : xG} {fr lo : Nat} {x0 : Nat} {h : xH} {Q : Outcome → xH → Prop} (hq : bX3_make G fr lo x0 h Q) : xP G YX3_make fr lo 0 [(0, rv x0)] [] h Q := by
  unfold bX3_make at hq
  obtain ⟨g1, g2, hq⟩ := hq
  obtain ⟨a3, e5⟩ : ∃ y, y = nx h + 1 := ⟨_, rfl⟩
  obtain ⟨h4, e6⟩ : ∃ y, y = nO h 16 6 := ⟨_, rfl⟩
  refine x_new' cdX3_71 dX3_make_0 g1 g2 e5 e6 (fun f7 => ?_)
  replace hq := hq a3 h4 e5 e6 f7
  have t8 : tg h4 a3 = 16 := by rw [e6, e5]; exact tg_nO
  refine x_dup dX3_make_3 (rv_cat _) ?_
  refine x_bipush (v := 55) dX3_make_4 (by decide) ?_
  refine x_aload_n 0 dX3_make_6 rfl ?_
  refine x_ldcS (n := 46) 81 srX3_221 dX3_make_7 ?_
  obtain ⟨g9, hq⟩ := hq
  obtain ⟨g10, g11, hq⟩ := hq
  refine x_callV (Yc := YX3_need) (as := [rv (tx G 46)]) (st := [.int 55, rv a3, rv a3]) q1719 mvX3_need g9 rfl dX3_make_9 (xle (xal1 (rv_cat _) (xal1 (rv_cat _) xal0)) (by decide)) (xfr g10) (xlo (xsw1 rfl (xsw1 (rv_cat _) (xsw1 (rv_cat _) xsw0))) (by decide) g11) (xKr hq (fun x13 h12 hq e14 => ?_) (fun _ _ q _ => q))
  replace hq := hq e14
  have t15 : tg h12 a3 = 16 := e14.tg t8 (by decide)
  obtain ⟨g16, g17, hq⟩ := hq
  refine x_callI (Yc := YX15_init) (as := [.int 55, rv x13]) (st := [rv a3]) q1749 miX15_init (by rw [t15]; decide) rfl dX3_make_12 (xle (xal1 (rv_cat _) (xal1 rfl (xal1 (rv_cat _) xal0))) (by decide)) (xfr g16) (xlo (xsw1 (rv_cat _) xsw0) (by decide) g17) (xKv hq (fun h18 hq e20 => ?_) (fun _ _ q _ => q))
  replace hq := hq e20
  refine x_astore_n (lv' := [(1, rv a3), (0, rv x0)]) dX3_make_15 (by decide) (by first | rfl | (simp [rv_cat, Value.category]; done) | (simp [rv_cat, Value.category]; decide)) ?_
  refine x_aload_n 1 dX3_make_16 rfl ?_
  refine x_ldcS (n := 47) 83 srX3_223 dX3_make_17 ?_
  have t21 : tg h12 x0 = 4 := e14.tg g9 (by decide)
  have t22 : tg h18 x0 = 4 := e20.tg t21 (by decide)
  obtain ⟨g23, g24, hq⟩ := hq
  refine x_callV (Yc := YX3_has) (as := [rv (tx G 47)]) (st := []) q1783 mvX3_has t22 rfl dX3_make_19 (xle (xal1 (rv_cat _) (xal1 (rv_cat _) xal0)) (by decide)) (xfr g23) (xlo xsw0 (by decide) g24) (xKi hq (fun x26 h25 hq e27 => ?_) (fun _ _ q _ => q))
  replace hq := hq e27
  refine x_if_eq (tgt := 27) dX3_make_22 (by decide) (fun c28 => ?_) (fun c28 => ?_)
  · replace hq := hq.1 c28
    refine xP.pick (lv' := [(0, rv x0), (1, rv a3)]) [1, 0] rfl ?_
    exact hq
  · replace hq := hq.2 c28
    refine x_aload_n 0 dX3_make_25 rfl ?_
    exact x_aret rfl xty_O dX3_make_26 hq
theorem rX3_make {G : xG} {fr lo : Nat} {x0 : Nat} {h : xH} {Q : Outcome → xH → Prop} (hq : bX3_make G fr lo x0 h Q) : xR G YX3_make fr lo [rv x0] h Q := by
  show xP _ _ _ _ _ (lv_args 0 _) _ _ _
  rw [show lv_args 0 [rv x0] = [(0, rv x0)] from (xla1 (rv_cat _) xla0)]
  exact uX3_make hq
set_option maxRecDepth 100000 in
theorem dX3_isTimes_0 : decode cX3_isTimes 0 = .ok (.aload_n 0, 1) := by decide +kernel
set_option maxRecDepth 100000 in
theorem dX3_isTimes_1 : decode cX3_isTimes 1 = .ok (.ldc_w 327, 3) := by decide +kernel
set_option maxRecDepth 100000 in
theorem dX3_isTimes_4 : decode cX3_isTimes 4 = .ok (.invokevirtual 60, 3) := by decide +kernel
set_option maxRecDepth 100000 in
theorem dX3_isTimes_7 : decode cX3_isTimes 7 = .ok (.ifCond .ne 43, 3) := by decide +kernel
set_option maxRecDepth 100000 in
theorem dX3_isTimes_10 : decode cX3_isTimes 10 = .ok (.aload_n 0, 1) := by decide +kernel
set_option maxRecDepth 100000 in
theorem dX3_isTimes_11 : decode cX3_isTimes 11 = .ok (.ldc_w 329, 3) := by decide +kernel
set_option maxRecDepth 100000 in
theorem dX3_isTimes_14 : decode cX3_isTimes 14 = .ok (.invokevirtual 60, 3) := by decide +kernel
set_option maxRecDepth 100000 in
theorem dX3_isTimes_17 : decode cX3_isTimes 17 = .ok (.ifCond .ne 33, 3) := by decide +kernel
set_option maxRecDepth 100000 in
theorem dX3_isTimes_20 : decode cX3_isTimes 20 = .ok (.aload_n 0, 1) := by decide +kernel
set_option maxRecDepth 100000 in
theorem dX3_isTimes_21 : decode cX3_isTimes 21 = .ok (.ldc_w 331, 3) := by decide +kernel
set_option maxRecDepth 100000 in
theorem dX3_isTimes_24 : decode cX3_isTimes 24 = .ok (.invokevirtual 60, 3) := by decide +kernel
set_option maxRecDepth 100000 in
theorem dX3_isTimes_27 : decode cX3_isTimes 27 = .ok (.ifCond .ne 23, 3) := by decide +kernel
set_option maxRecDepth 100000 in
theorem dX3_isTimes_30 : decode cX3_isTimes 30 = .ok (.aload_n 0, 1) := by decide +kernel
set_option maxRecDepth 100000 in
theorem dX3_isTimes_31 : decode cX3_isTimes 31 = .ok (.ldc_w 333, 3) := by decide +kernel
set_option maxRecDepth 100000 in
theorem dX3_isTimes_34 : decode cX3_isTimes 34 = .ok (.invokevirtual 60, 3) := by decide +kernel
set_option maxRecDepth 100000 in
theorem dX3_isTimes_37 : decode cX3_isTimes 37 = .ok (.ifCond .ne 13, 3) := by decide +kernel
set_option maxRecDepth 100000 in
theorem dX3_isTimes_40 : decode cX3_isTimes 40 = .ok (.aload_n 0, 1) := by decide +kernel
set_option maxRecDepth 100000 in
theorem dX3_isTimes_41 : decode cX3_isTimes 41 = .ok (.ldc_w 335, 3) := by decide +kernel
set_option maxRecDepth 100000 in
theorem dX3_isTimes_44 : decode cX3_isTimes 44 = .ok (.invokevirtual 60, 3) := by decide +kernel
set_option maxRecDepth 100000 in
theorem dX3_isTimes_47 : decode cX3_isTimes 47 = .ok (.ifCond .eq 7, 3) := by decide +kernel
set_option maxRecDepth 100000 in
theorem dX3_isTimes_50 : decode cX3_isTimes 50 = .ok (.iconst 1, 1) := by decide +kernel
set_option maxRecDepth 100000 in
theorem dX3_isTimes_51 : decode cX3_isTimes 51 = .ok (.goto 4, 3) := by decide +kernel
set_option maxRecDepth 100000 in
theorem dX3_isTimes_54 : decode cX3_isTimes 54 = .ok (.iconst 0, 1) := by decide +kernel
set_option maxRecDepth 100000 in
theorem dX3_isTimes_55 : decode cX3_isTimes 55 = .ok (.ireturn, 1) := by decide +kernel
set_option maxRecDepth 100000 in
def bX3_isTimes_55 (G : xG) (fr lo : Nat) (s0 : Int32) (h : xH) (Q : Outcome → xH → Prop) : Prop := xbz s0 ∧ Q (.returned (some (.int s0))) h
set_option maxRecDepth 100000 in
theorem uX3_isTimes_55 {G : xG} {fr lo : Nat} {s0 : Int32} {h : xH} {Q : Outcome → xH → Prop} (hq : bX3_isTimes_55 G fr lo s0 h Q) : xP G YX3_isTimes fr lo 55 [] [.int s0] h Q := by
  unfold bX3_isTimes_55 at hq
  obtain ⟨g1, hq⟩ := hq
  exact x_iret rfl (xnZ g1) dX3_isTimes_55 hq
set_option maxRecDepth 100000 in
def bX3_isTimes_50 (G : xG) (fr lo : Nat) (h : xH) (Q : Outcome → xH → Prop) : Prop := bX3_isTimes_55 G fr lo 1 h Q
set_option maxRecDepth 100000 in
theorem uX3_isTimes_50 {G : xG} {fr lo : Nat} {h : xH} {Q : Outcome → xH → Prop} (hq : bX3_isTimes_50 G fr lo h Q) : xP G YX3_isTimes fr lo 50 [] [] h Q := by
  unfold bX3_isTimes_50 at hq
  refine x_iconst (v := 1) dX3_isTimes_50 (by decide) ?_
  refine x_goto (tgt := 55) dX3_isTimes_51 (by decide) ?_
  exact uX3_isTimes_55 hq
set_option maxRecDepth 100000 in
def bX3_isTimes (G : xG) (fr lo : Nat) (x0 : Nat) (h : xH) (Q : Outcome → xH → Prop) : Prop := tg h x0 = 4 ∧ 1 ≤ fr ∧ 13 ≤ lo ∧ xRi G YX3_is (fr - 1) (lo - 13) [rv x0, rv (tx G 55)] h (fun x5 h4 => xext h h4 → ((¬ x5 = 0 → bX3_isTimes_50 G fr lo h4 Q) ∧ (x5 = 0 → 1 ≤ fr ∧ 13 ≤ lo ∧ xRi G YX3_is (fr - 1) (lo - 13) [rv x0, rv (tx G 56)] h4 (fun x12 h11 => xext h4 h11 → ((¬ x12 = 0 → bX3_isTimes_50 G fr lo h11 Q) ∧ (x12 = 0 → 1 ≤ fr ∧ 13 ≤ lo ∧ xRi G YX3_is (fr - 1) (lo - 13) [rv x0, rv (tx G 5)] h11 (fun x19 h18 => xext h11 h18 → ((¬ x19 = 0 → bX3_isTimes_50 G fr lo h18 Q) ∧ (x19 = 0 → 1 ≤ fr ∧ 13 ≤ lo ∧ xRi G YX3_is (fr - 1) (lo - 13) [rv x0, rv (tx G 17)] h18 (fun x26 h25 => xext h18 h25 → ((¬ x26 = 0 → bX3_isTimes_50 G fr lo h25 Q) ∧ (x26 = 0 → 1 ≤ fr ∧ 13 ≤ lo ∧ xRi G YX3_is (fr - 1) (lo - 13) [rv x0, rv (tx G 0)] h25 (fun x33 h32 => xext h25 h32 → ((x33 = 0 → bX3_isTimes_55 G fr lo 0 h32 Q) ∧ (¬ x33 = 0 → bX3_isTimes_50 G fr lo h32 Q))) (fun r h2 => Q (.threw r) h2)))) (fun r h2 => Q (.threw r) h2)))) (fun r h2 => Q (.threw r) h2)))) (fun r h2 => Q (.threw r) h2)))) (fun r h2 => Q (.threw r) h2)
set_option maxRecDepth 100000 in
theorem uX3_isTimes {G : xG} {fr lo : Nat} {x0 : Nat} {h : xH} {Q : Outcome → xH → Prop} (hq : bX3_isTimes G fr lo x0 h Q) : xP G YX3_isTimes fr lo 0 [(0, rv x0)] [] h Q := by
  unfold bX3_isTimes at hq
  refine x_aload_n 0 dX3_isTimes_0 rfl ?_
  refine x_ldcwS (n := 55) 100 srX3_327 dX3_isTimes_1 ?_
  obtain ⟨g1, hq⟩ := hq
  obtain ⟨g2, g3, hq⟩ := hq
  refine x_callV (Yc := YX3_is) (as := [rv (tx G 55)]) (st := []) q1723 mvX3_is g1 rfl dX3_isTimes_4 (xle (xal1 (rv_cat _) (xal1 (rv_cat _) xal0)) (by decide)) (xfr g2) (xlo xsw0 (by decide) g3) (xKi hq (fun x5 h4 hq e6 => ?_) (fun _ _ q _ => q))
  replace hq := hq e6
  refine x_if_ne (tgt := 50) dX3_isTimes_7 (by decide) (fun c7 => ?_) (fun c7 => ?_)
  · replace hq := hq.1 c7
    refine xP.pick (lv' := []) [] rfl ?_
    exact uX3_isTimes_50 hq
  · replace hq := hq.2 c7
    refine x_aload_n 0 dX3_isTimes_10 rfl ?_
    refine x_ldcwS (n := 56) 101 srX3_329 dX3_isTimes_11 ?_
    have t8 : tg h4 x0 = 4 := e6.tg g1 (by decide)
    obtain ⟨g9, g10, hq⟩ := hq
    refine x_callV (Yc := YX3_is) (as := [rv (tx G 56)]) (st := []) q1723 mvX3_is t8 rfl dX3_isTimes_14 (xle (xal1 (rv_cat _) (xal1 (rv_cat _) xal0)) (by decide)) (xfr g9) (xlo xsw0 (by decide) g10) (xKi hq (fun x12 h11 hq e13 => ?_) (fun _ _ q _ => q))
    replace hq := hq e13
    refine x_if_ne (tgt := 50) dX3_isTimes_17 (by decide) (fun c14 => ?_) (fun c14 => ?_)
    · replace hq := hq.1 c14
      refine xP.pick (lv' := []) [] rfl ?_
      exact uX3_isTimes_50 hq
    · replace hq := hq.2 c14
      refine x_aload_n 0 dX3_isTimes_20 rfl ?_
      refine x_ldcwS (n := 5) 102 srX3_331 dX3_isTimes_21 ?_
      have t15 : tg h11 x0 = 4 := e13.tg t8 (by decide)
      obtain ⟨g16, g17, hq⟩ := hq
      refine x_callV (Yc := YX3_is) (as := [rv (tx G 5)]) (st := []) q1723 mvX3_is t15 rfl dX3_isTimes_24 (xle (xal1 (rv_cat _) (xal1 (rv_cat _) xal0)) (by decide)) (xfr g16) (xlo xsw0 (by decide) g17) (xKi hq (fun x19 h18 hq e20 => ?_) (fun _ _ q _ => q))
      replace hq := hq e20
      refine x_if_ne (tgt := 50) dX3_isTimes_27 (by decide) (fun c21 => ?_) (fun c21 => ?_)
      · replace hq := hq.1 c21
        refine xP.pick (lv' := []) [] rfl ?_
        exact uX3_isTimes_50 hq
      · replace hq := hq.2 c21
        refine x_aload_n 0 dX3_isTimes_30 rfl ?_
        refine x_ldcwS (n := 17) 103 srX3_333 dX3_isTimes_31 ?_
        have t22 : tg h18 x0 = 4 := e20.tg t15 (by decide)
        obtain ⟨g23, g24, hq⟩ := hq
        refine x_callV (Yc := YX3_is) (as := [rv (tx G 17)]) (st := []) q1723 mvX3_is t22 rfl dX3_isTimes_34 (xle (xal1 (rv_cat _) (xal1 (rv_cat _) xal0)) (by decide)) (xfr g23) (xlo xsw0 (by decide) g24) (xKi hq (fun x26 h25 hq e27 => ?_) (fun _ _ q _ => q))
        replace hq := hq e27
        refine x_if_ne (tgt := 50) dX3_isTimes_37 (by decide) (fun c28 => ?_) (fun c28 => ?_)
        · replace hq := hq.1 c28
          refine xP.pick (lv' := []) [] rfl ?_
          exact uX3_isTimes_50 hq
        · replace hq := hq.2 c28
          refine x_aload_n 0 dX3_isTimes_40 rfl ?_
          refine x_ldcwS (n := 0) 104 srX3_335 dX3_isTimes_41 ?_
          have t29 : tg h25 x0 = 4 := e27.tg t22 (by decide)
          obtain ⟨g30, g31, hq⟩ := hq
          refine x_callV (Yc := YX3_is) (as := [rv (tx G 0)]) (st := []) q1723 mvX3_is t29 rfl dX3_isTimes_44 (xle (xal1 (rv_cat _) (xal1 (rv_cat _) xal0)) (by decide)) (xfr g30) (xlo xsw0 (by decide) g31) (xKi hq (fun x33 h32 hq e34 => ?_) (fun _ _ q _ => q))
          replace hq := hq e34
          refine x_if_eq (tgt := 54) dX3_isTimes_47 (by decide) (fun c35 => ?_) (fun c35 => ?_)
          · replace hq := hq.1 c35
            refine x_iconst (v := 0) dX3_isTimes_54 (by decide) ?_
            refine xP.pick (lv' := []) [] rfl ?_
            exact uX3_isTimes_55 hq
          · replace hq := hq.2 c35
            refine xP.pick (lv' := []) [] rfl ?_
            exact uX3_isTimes_50 hq
theorem rX3_isTimes {G : xG} {fr lo : Nat} {x0 : Nat} {h : xH} {Q : Outcome → xH → Prop} (hq : bX3_isTimes G fr lo x0 h Q) : xR G YX3_isTimes fr lo [rv x0] h Q := by
  show xP _ _ _ _ _ (lv_args 0 _) _ _ _
  rw [show lv_args 0 [rv x0] = [(0, rv x0)] from (xla1 (rv_cat _) xla0)]
  exact uX3_isTimes hq
set_option maxRecDepth 100000 in
theorem dX3_isRelation_0 : decode cX3_isRelation 0 = .ok (.aload_n 0, 1) := by decide +kernel
set_option maxRecDepth 100000 in
theorem dX3_isRelation_1 : decode cX3_isRelation 1 = .ok (.ldc 152, 2) := by decide +kernel
set_option maxRecDepth 100000 in
theorem dX3_isRelation_3 : decode cX3_isRelation 3 = .ok (.invokevirtual 60, 3) := by decide +kernel
set_option maxRecDepth 100000 in
theorem dX3_isRelation_6 : decode cX3_isRelation 6 = .ok (.ifCond .ne 63, 3) := by decide +kernel
set_option maxRecDepth 100000 in
theorem dX3_isRelation_9 : decode cX3_isRelation 9 = .ok (.aload_n 0, 1) := by decide +kernel
set_option maxRecDepth 100000 in
theorem dX3_isRelation_10 : decode cX3_isRelation 10 = .ok (.ldc_w 304, 3) := by decide +kernel
set_option maxRecDepth 100000 in
theorem dX3_isRelation_13 : decode cX3_isRelation 13 = .ok (.invokevirtual 60, 3) := by decide +kernel
set_option maxRecDepth 100000 in
theorem dX3_isRelation_16 : decode cX3_isRelation 16 = .ok (.ifCond .ne 53, 3) := by decide +kernel
set_option maxRecDepth 100000 in
theorem dX3_isRelation_19 : decode cX3_isRelation 19 = .ok (.aload_n 0, 1) := by decide +kernel
set_option maxRecDepth 100000 in
theorem dX3_isRelation_20 : decode cX3_isRelation 20 = .ok (.ldc_w 306, 3) := by decide +kernel
set_option maxRecDepth 100000 in
theorem dX3_isRelation_23 : decode cX3_isRelation 23 = .ok (.invokevirtual 60, 3) := by decide +kernel
set_option maxRecDepth 100000 in
theorem dX3_isRelation_26 : decode cX3_isRelation 26 = .ok (.ifCond .ne 43, 3) := by decide +kernel
set_option maxRecDepth 100000 in
theorem dX3_isRelation_29 : decode cX3_isRelation 29 = .ok (.aload_n 0, 1) := by decide +kernel
set_option maxRecDepth 100000 in
theorem dX3_isRelation_30 : decode cX3_isRelation 30 = .ok (.ldc_w 308, 3) := by decide +kernel
set_option maxRecDepth 100000 in
theorem dX3_isRelation_33 : decode cX3_isRelation 33 = .ok (.invokevirtual 60, 3) := by decide +kernel
set_option maxRecDepth 100000 in
theorem dX3_isRelation_36 : decode cX3_isRelation 36 = .ok (.ifCond .ne 33, 3) := by decide +kernel
set_option maxRecDepth 100000 in
theorem dX3_isRelation_39 : decode cX3_isRelation 39 = .ok (.aload_n 0, 1) := by decide +kernel
set_option maxRecDepth 100000 in
theorem dX3_isRelation_40 : decode cX3_isRelation 40 = .ok (.ldc_w 310, 3) := by decide +kernel
set_option maxRecDepth 100000 in
theorem dX3_isRelation_43 : decode cX3_isRelation 43 = .ok (.invokevirtual 60, 3) := by decide +kernel
set_option maxRecDepth 100000 in
theorem dX3_isRelation_46 : decode cX3_isRelation 46 = .ok (.ifCond .ne 23, 3) := by decide +kernel
set_option maxRecDepth 100000 in
theorem dX3_isRelation_49 : decode cX3_isRelation 49 = .ok (.aload_n 0, 1) := by decide +kernel
set_option maxRecDepth 100000 in
theorem dX3_isRelation_50 : decode cX3_isRelation 50 = .ok (.ldc_w 312, 3) := by decide +kernel
set_option maxRecDepth 100000 in
theorem dX3_isRelation_53 : decode cX3_isRelation 53 = .ok (.invokevirtual 60, 3) := by decide +kernel
set_option maxRecDepth 100000 in
theorem dX3_isRelation_56 : decode cX3_isRelation 56 = .ok (.ifCond .ne 13, 3) := by decide +kernel
set_option maxRecDepth 100000 in
theorem dX3_isRelation_59 : decode cX3_isRelation 59 = .ok (.aload_n 0, 1) := by decide +kernel
set_option maxRecDepth 100000 in
theorem dX3_isRelation_60 : decode cX3_isRelation 60 = .ok (.ldc_w 314, 3) := by decide +kernel
set_option maxRecDepth 100000 in
theorem dX3_isRelation_63 : decode cX3_isRelation 63 = .ok (.invokevirtual 60, 3) := by decide +kernel
set_option maxRecDepth 100000 in
theorem dX3_isRelation_66 : decode cX3_isRelation 66 = .ok (.ifCond .eq 7, 3) := by decide +kernel
set_option maxRecDepth 100000 in
theorem dX3_isRelation_69 : decode cX3_isRelation 69 = .ok (.iconst 1, 1) := by decide +kernel
set_option maxRecDepth 100000 in
theorem dX3_isRelation_70 : decode cX3_isRelation 70 = .ok (.goto 4, 3) := by decide +kernel
set_option maxRecDepth 100000 in
theorem dX3_isRelation_73 : decode cX3_isRelation 73 = .ok (.iconst 0, 1) := by decide +kernel
set_option maxRecDepth 100000 in
theorem dX3_isRelation_74 : decode cX3_isRelation 74 = .ok (.ireturn, 1) := by decide +kernel
set_option maxRecDepth 100000 in
def bX3_isRelation_74 (G : xG) (fr lo : Nat) (s0 : Int32) (h : xH) (Q : Outcome → xH → Prop) : Prop := xbz s0 ∧ Q (.returned (some (.int s0))) h
set_option maxRecDepth 100000 in
theorem uX3_isRelation_74 {G : xG} {fr lo : Nat} {s0 : Int32} {h : xH} {Q : Outcome → xH → Prop} (hq : bX3_isRelation_74 G fr lo s0 h Q) : xP G YX3_isRelation fr lo 74 [] [.int s0] h Q := by
  unfold bX3_isRelation_74 at hq
  obtain ⟨g1, hq⟩ := hq
  exact x_iret rfl (xnZ g1) dX3_isRelation_74 hq
set_option maxRecDepth 100000 in
def bX3_isRelation_69 (G : xG) (fr lo : Nat) (h : xH) (Q : Outcome → xH → Prop) : Prop := bX3_isRelation_74 G fr lo 1 h Q
set_option maxRecDepth 100000 in
theorem uX3_isRelation_69 {G : xG} {fr lo : Nat} {h : xH} {Q : Outcome → xH → Prop} (hq : bX3_isRelation_69 G fr lo h Q) : xP G YX3_isRelation fr lo 69 [] [] h Q := by
  unfold bX3_isRelation_69 at hq
  refine x_iconst (v := 1) dX3_isRelation_69 (by decide) ?_
  refine x_goto (tgt := 74) dX3_isRelation_70 (by decide) ?_
  exact uX3_isRelation_74 hq
set_option maxRecDepth 100000 in
def bX3_isRelation (G : xG) (fr lo : Nat) (x0 : Nat) (h : xH) (Q : Outcome → xH → Prop) : Prop := tg h x0 = 4 ∧ 1 ≤ fr ∧ 13 ≤ lo ∧ xRi G YX3_is (fr - 1) (lo - 13) [rv x0, rv (tx G 57)] h (fun x5 h4 => xext h h4 → ((¬ x5 = 0 → bX3_isRelation_69 G fr lo h4 Q) ∧ (x5 = 0 → 1 ≤ fr ∧ 13 ≤ lo ∧ xRi G YX3_is (fr - 1) (lo - 13) [rv x0, rv (tx G 50)] h4 (fun x12 h11 => xext h4 h11 → ((¬ x12 = 0 → bX3_isRelation_69 G fr lo h11 Q) ∧ (x12 = 0 → 1 ≤ fr ∧ 13 ≤ lo ∧ xRi G YX3_is (fr - 1) (lo - 13) [rv x0, rv (tx G 58)] h11 (fun x19 h18 => xext h11 h18 → ((¬ x19 = 0 → bX3_isRelation_69 G fr lo h18 Q) ∧ (x19 = 0 → 1 ≤ fr ∧ 13 ≤ lo ∧ xRi G YX3_is (fr - 1) (lo - 13) [rv x0, rv (tx G 59)] h18 (fun x26 h25 => xext h18 h25 → ((¬ x26 = 0 → bX3_isRelation_69 G fr lo h25 Q) ∧ (x26 = 0 → 1 ≤ fr ∧ 13 ≤ lo ∧ xRi G YX3_is (fr - 1) (lo - 13) [rv x0, rv (tx G 48)] h25 (fun x33 h32 => xext h25 h32 → ((¬ x33 = 0 → bX3_isRelation_69 G fr lo h32 Q) ∧ (x33 = 0 → 1 ≤ fr ∧ 13 ≤ lo ∧ xRi G YX3_is (fr - 1) (lo - 13) [rv x0, rv (tx G 49)] h32 (fun x40 h39 => xext h32 h39 → ((¬ x40 = 0 → bX3_isRelation_69 G fr lo h39 Q) ∧ (x40 = 0 → 1 ≤ fr ∧ 13 ≤ lo ∧ xRi G YX3_is (fr - 1) (lo - 13) [rv x0, rv (tx G 15)] h39 (fun x47 h46 => xext h39 h46 → ((x47 = 0 → bX3_isRelation_74 G fr lo 0 h46 Q) ∧ (¬ x47 = 0 → bX3_isRelation_69 G fr lo h46 Q))) (fun r h2 => Q (.threw r) h2)))) (fun r h2 => Q (.threw r) h2)))) (fun r h2 => Q (.threw r) h2)))) (fun r h2 => Q (.threw r) h2)))) (fun r h2 => Q (.threw r) h2)))) (fun r h2 => Q (.threw r) h2)))) (fun r h2 => Q (.threw r) h2)
set_option maxRecDepth 100000 in
theorem uX3_isRelation {G : xG} {fr lo : Nat} {x0 : Nat} {h : xH} {Q : Outcome → xH → Prop} (hq : bX3_isRelation G fr lo x0 h Q) : xP G YX3_isRelation fr lo 0 [(0, rv x0)] [] h Q := by
  unfold bX3_isRelation at hq
  refine x_aload_n 0 dX3_isRelation_0 rfl ?_
  refine x_ldcS (n := 57) 74 srX3_152 dX3_isRelation_1 ?_
  obtain ⟨g1, hq⟩ := hq
  obtain ⟨g2, g3, hq⟩ := hq
  refine x_callV (Yc := YX3_is) (as := [rv (tx G 57)]) (st := []) q1723 mvX3_is g1 rfl dX3_isRelation_3 (xle (xal1 (rv_cat _) (xal1 (rv_cat _) xal0)) (by decide)) (xfr g2) (xlo xsw0 (by decide) g3) (xKi hq (fun x5 h4 hq e6 => ?_) (fun _ _ q _ => q))
  replace hq := hq e6
  refine x_if_ne (tgt := 69) dX3_isRelation_6 (by decide) (fun c7 => ?_) (fun c7 => ?_)
  · replace hq := hq.1 c7
    refine xP.pick (lv' := []) [] rfl ?_
    exact uX3_isRelation_69 hq
  · replace hq := hq.2 c7
    refine x_aload_n 0 dX3_isRelation_9 rfl ?_
    refine x_ldcwS (n := 50) 106 srX3_304 dX3_isRelation_10 ?_
    have t8 : tg h4 x0 = 4 := e6.tg g1 (by decide)
    obtain ⟨g9, g10, hq⟩ := hq
    refine x_callV (Yc := YX3_is) (as := [rv (tx G 50)]) (st := []) q1723 mvX3_is t8 rfl dX3_isRelation_13 (xle (xal1 (rv_cat _) (xal1 (rv_cat _) xal0)) (by decide)) (xfr g9) (xlo xsw0 (by decide) g10) (xKi hq (fun x12 h11 hq e13 => ?_) (fun _ _ q _ => q))
    replace hq := hq e13
    refine x_if_ne (tgt := 69) dX3_isRelation_16 (by decide) (fun c14 => ?_) (fun c14 => ?_)
    · replace hq := hq.1 c14
      refine xP.pick (lv' := []) [] rfl ?_
      exact uX3_isRelation_69 hq
    · replace hq := hq.2 c14
      refine x_aload_n 0 dX3_isRelation_19 rfl ?_
      refine x_ldcwS (n := 58) 107 srX3_306 dX3_isRelation_20 ?_
      have t15 : tg h11 x0 = 4 := e13.tg t8 (by decide)
      obtain ⟨g16, g17, hq⟩ := hq
      refine x_callV (Yc := YX3_is) (as := [rv (tx G 58)]) (st := []) q1723 mvX3_is t15 rfl dX3_isRelation_23 (xle (xal1 (rv_cat _) (xal1 (rv_cat _) xal0)) (by decide)) (xfr g16) (xlo xsw0 (by decide) g17) (xKi hq (fun x19 h18 hq e20 => ?_) (fun _ _ q _ => q))
      replace hq := hq e20
      refine x_if_ne (tgt := 69) dX3_isRelation_26 (by decide) (fun c21 => ?_) (fun c21 => ?_)
      · replace hq := hq.1 c21
        refine xP.pick (lv' := []) [] rfl ?_
        exact uX3_isRelation_69 hq
      · replace hq := hq.2 c21
        refine x_aload_n 0 dX3_isRelation_29 rfl ?_
        refine x_ldcwS (n := 59) 108 srX3_308 dX3_isRelation_30 ?_
        have t22 : tg h18 x0 = 4 := e20.tg t15 (by decide)
        obtain ⟨g23, g24, hq⟩ := hq
        refine x_callV (Yc := YX3_is) (as := [rv (tx G 59)]) (st := []) q1723 mvX3_is t22 rfl dX3_isRelation_33 (xle (xal1 (rv_cat _) (xal1 (rv_cat _) xal0)) (by decide)) (xfr g23) (xlo xsw0 (by decide) g24) (xKi hq (fun x26 h25 hq e27 => ?_) (fun _ _ q _ => q))
        replace hq := hq e27
        refine x_if_ne (tgt := 69) dX3_isRelation_36 (by decide) (fun c28 => ?_) (fun c28 => ?_)
        · replace hq := hq.1 c28
          refine xP.pick (lv' := []) [] rfl ?_
          exact uX3_isRelation_69 hq
        · replace hq := hq.2 c28
          refine x_aload_n 0 dX3_isRelation_39 rfl ?_
          refine x_ldcwS (n := 48) 109 srX3_310 dX3_isRelation_40 ?_
          have t29 : tg h25 x0 = 4 := e27.tg t22 (by decide)
          obtain ⟨g30, g31, hq⟩ := hq
          refine x_callV (Yc := YX3_is) (as := [rv (tx G 48)]) (st := []) q1723 mvX3_is t29 rfl dX3_isRelation_43 (xle (xal1 (rv_cat _) (xal1 (rv_cat _) xal0)) (by decide)) (xfr g30) (xlo xsw0 (by decide) g31) (xKi hq (fun x33 h32 hq e34 => ?_) (fun _ _ q _ => q))
          replace hq := hq e34
          refine x_if_ne (tgt := 69) dX3_isRelation_46 (by decide) (fun c35 => ?_) (fun c35 => ?_)
          · replace hq := hq.1 c35
            refine xP.pick (lv' := []) [] rfl ?_
            exact uX3_isRelation_69 hq
          · replace hq := hq.2 c35
            refine x_aload_n 0 dX3_isRelation_49 rfl ?_
            refine x_ldcwS (n := 49) 110 srX3_312 dX3_isRelation_50 ?_
            have t36 : tg h32 x0 = 4 := e34.tg t29 (by decide)
            obtain ⟨g37, g38, hq⟩ := hq
            refine x_callV (Yc := YX3_is) (as := [rv (tx G 49)]) (st := []) q1723 mvX3_is t36 rfl dX3_isRelation_53 (xle (xal1 (rv_cat _) (xal1 (rv_cat _) xal0)) (by decide)) (xfr g37) (xlo xsw0 (by decide) g38) (xKi hq (fun x40 h39 hq e41 => ?_) (fun _ _ q _ => q))
            replace hq := hq e41
            refine x_if_ne (tgt := 69) dX3_isRelation_56 (by decide) (fun c42 => ?_) (fun c42 => ?_)
            · replace hq := hq.1 c42
              refine xP.pick (lv' := []) [] rfl ?_
              exact uX3_isRelation_69 hq
            · replace hq := hq.2 c42
              refine x_aload_n 0 dX3_isRelation_59 rfl ?_
              refine x_ldcwS (n := 15) 111 srX3_314 dX3_isRelation_60 ?_
              have t43 : tg h39 x0 = 4 := e41.tg t36 (by decide)
              obtain ⟨g44, g45, hq⟩ := hq
              refine x_callV (Yc := YX3_is) (as := [rv (tx G 15)]) (st := []) q1723 mvX3_is t43 rfl dX3_isRelation_63 (xle (xal1 (rv_cat _) (xal1 (rv_cat _) xal0)) (by decide)) (xfr g44) (xlo xsw0 (by decide) g45) (xKi hq (fun x47 h46 hq e48 => ?_) (fun _ _ q _ => q))
              replace hq := hq e48
              refine x_if_eq (tgt := 73) dX3_isRelation_66 (by decide) (fun c49 => ?_) (fun c49 => ?_)
              · replace hq := hq.1 c49
                refine x_iconst (v := 0) dX3_isRelation_73 (by decide) ?_
                refine xP.pick (lv' := []) [] rfl ?_
                exact uX3_isRelation_74 hq
              · replace hq := hq.2 c49
                refine xP.pick (lv' := []) [] rfl ?_
                exact uX3_isRelation_69 hq
theorem rX3_isRelation {G : xG} {fr lo : Nat} {x0 : Nat} {h : xH} {Q : Outcome → xH → Prop} (hq : bX3_isRelation G fr lo x0 h Q) : xR G YX3_isRelation fr lo [rv x0] h Q := by
  show xP _ _ _ _ _ (lv_args 0 _) _ _ _
  rw [show lv_args 0 [rv x0] = [(0, rv x0)] from (xla1 (rv_cat _) xla0)]
  exact uX3_isRelation hq
set_option maxRecDepth 100000 in
theorem dX3_argument_0 : decode cX3_argument 0 = .ok (.new 71, 3) := by decide +kernel
set_option maxRecDepth 100000 in
theorem dX3_argument_3 : decode cX3_argument 3 = .ok (.dup, 1) := by decide +kernel
set_option maxRecDepth 100000 in
theorem dX3_argument_4 : decode cX3_argument 4 = .ok (.iconst 0, 1) := by decide +kernel
set_option maxRecDepth 100000 in
theorem dX3_argument_5 : decode cX3_argument 5 = .ok (.aload_n 0, 1) := by decide +kernel
set_option maxRecDepth 100000 in
theorem dX3_argument_6 : decode cX3_argument 6 = .ok (.getfield 25, 3) := by decide +kernel
set_option maxRecDepth 100000 in
theorem dX3_argument_9 : decode cX3_argument 9 = .ok (.invokespecial 77, 3) := by decide +kernel
set_option maxRecDepth 100000 in
theorem dX3_argument_12 : decode cX3_argument 12 = .ok (.aload_n 0, 1) := by decide +kernel
set_option maxRecDepth 100000 in
theorem dX3_argument_13 : decode cX3_argument 13 = .ok (.invokevirtual 261, 3) := by decide +kernel
set_option maxRecDepth 100000 in
theorem dX3_argument_16 : decode cX3_argument 16 = .ok (.invokevirtual 84, 3) := by decide +kernel
set_option maxRecDepth 100000 in
theorem dX3_argument_19 : decode cX3_argument 19 = .ok (.astore_n 1, 1) := by decide +kernel
set_option maxRecDepth 100000 in
theorem dX3_argument_20 : decode cX3_argument 20 = .ok (.iconst 0, 1) := by decide +kernel
set_option maxRecDepth 100000 in
theorem dX3_argument_21 : decode cX3_argument 21 = .ok (.istore_n 2, 1) := by decide +kernel
set_option maxRecDepth 100000 in
theorem dX3_argument_22 : decode cX3_argument 22 = .ok (.iload_n 2, 1) := by decide +kernel
set_option maxRecDepth 100000 in
theorem dX3_argument_23 : decode cX3_argument 23 = .ok (.iconst 2, 1) := by decide +kernel
set_option maxRecDepth 100000 in
theorem dX3_argument_24 : decode cX3_argument 24 = .ok (.if_icmp .ge 43, 3) := by decide +kernel
set_option maxRecDepth 100000 in
theorem dX3_argument_27 : decode cX3_argument 27 = .ok (.aload_n 0, 1) := by decide +kernel
set_option maxRecDepth 100000 in
theorem dX3_argument_28 : decode cX3_argument 28 = .ok (.ldc 170, 2) := by decide +kernel
set_option maxRecDepth 100000 in
theorem dX3_argument_30 : decode cX3_argument 30 = .ok (.invokevirtual 60, 3) := by decide +kernel
set_option maxRecDepth 100000 in
theorem dX3_argument_33 : decode cX3_argument 33 = .ok (.ifCond .eq 34, 3) := by decide +kernel
set_option maxRecDepth 100000 in
theorem dX3_argument_36 : decode cX3_argument 36 = .ok (.aload_n 1, 1) := by decide +kernel
set_option maxRecDepth 100000 in
theorem dX3_argument_37 : decode cX3_argument 37 = .ok (.new 71, 3) := by decide +kernel
set_option maxRecDepth 100000 in
theorem dX3_argument_40 : decode cX3_argument 40 = .ok (.dup, 1) := by decide +kernel
set_option maxRecDepth 100000 in
theorem dX3_argument_41 : decode cX3_argument 41 = .ok (.bipush 43, 2) := by decide +kernel
set_option maxRecDepth 100000 in
theorem dX3_argument_43 : decode cX3_argument 43 = .ok (.aload_n 0, 1) := by decide +kernel
set_option maxRecDepth 100000 in
theorem dX3_argument_44 : decode cX3_argument 44 = .ok (.invokevirtual 65, 3) := by decide +kernel
set_option maxRecDepth 100000 in
theorem dX3_argument_47 : decode cX3_argument 47 = .ok (.invokespecial 77, 3) := by decide +kernel
set_option maxRecDepth 100000 in
theorem dX3_argument_50 : decode cX3_argument 50 = .ok (.aload_n 0, 1) := by decide +kernel
set_option maxRecDepth 100000 in
theorem dX3_argument_51 : decode cX3_argument 51 = .ok (.invokevirtual 261, 3) := by decide +kernel
set_option maxRecDepth 100000 in
theorem dX3_argument_54 : decode cX3_argument 54 = .ok (.invokevirtual 84, 3) := by decide +kernel
set_option maxRecDepth 100000 in
theorem dX3_argument_57 : decode cX3_argument 57 = .ok (.invokevirtual 84, 3) := by decide +kernel
set_option maxRecDepth 100000 in
theorem dX3_argument_60 : decode cX3_argument 60 = .ok (.pop, 1) := by decide +kernel
set_option maxRecDepth 100000 in
theorem dX3_argument_61 : decode cX3_argument 61 = .ok (.iinc 2 1, 3) := by decide +kernel
set_option maxRecDepth 100000 in
theorem dX3_argument_64 : decode cX3_argument 64 = .ok (.goto (-42), 3) := by decide +kernel
set_option maxRecDepth 100000 in
theorem dX3_argument_67 : decode cX3_argument 67 = .ok (.aload_n 1, 1) := by decide +kernel
set_option maxRecDepth 100000 in
theorem dX3_argument_68 : decode cX3_argument 68 = .ok (.areturn, 1) := by decide +kernel
def lX3_argument_22 (G : xG) (fr lo : Nat) (x0 : Nat) (x1 : Nat) (x2 : Int32) (h : xH) (Q : Outcome → xH → Prop) : Prop := xP G YX3_argument fr lo 22 [(0, rv x0), (1, rv x1), (2, .int x2)] [] h Q
set_option maxRecDepth 100000 in
def bX3_argument_67 (G : xG) (fr lo : Nat) (x1 : Nat) (h : xH) (Q : Outcome → xH → Prop) : Prop := Q (.returned (some (rv x1))) h
set_option maxRecDepth 100000 in
theorem uX3_argument_67 {G : xG} {fr lo : Nat} {x1 : Nat} {h : xH} {Q : Outcome → xH → Prop} (hq : bX3_argument_67 G fr lo x1 h Q) : xP G YX3_argument fr lo 67 [(1, rv x1)] [] h Q := by
  unfold bX3_argument_67 at hq
  refine x_aload_n 0 dX3_argument_67 rfl ?_
  exact x_aret rfl xty_O dX3_argument_68 hq
set_option maxRecDepth 100000 in
def bX3_argument_22 (G : xG) (fr lo : Nat) (x0 : Nat) (x1 : Nat) (x2 : Int32) (h : xH) (Q : Outcome → xH → Prop) : Prop := ((2 ≤ x2 → bX3_argument_67 G fr lo x1 h Q) ∧ (¬ 2 ≤ x2 → tg h x0 = 4 ∧ 1 ≤ fr ∧ 13 ≤ lo ∧ xRi G YX3_is (fr - 1) (lo - 13) [rv x0, rv (tx G 65)] h (fun x6 h5 => xext h h5 → ((x6 = 0 → bX3_argument_67 G fr lo x1 h5 Q) ∧ (¬ x6 = 0 → nx h5 + 1 ≤ xGN G ∧ us h5 + 6 ≤ xGU G ∧ (∀ (a11 : Nat) (h12 : xH), a11 = nx h5 + 1 → h12 = nO h5 16 6 → xfresh h5 a11 → 1 ≤ fr ∧ 17 ≤ lo ∧ xRr G YX3_take (fr - 1) (lo - 17) [rv x0] h12 (fun x22 h21 => xext h12 h21 → 1 ≤ fr ∧ 16 ≤ lo ∧ xRv G YX15_init (fr - 1) (lo - 16) [rv a11, .int 43, rv x22] h21 (fun h27 => xext h21 h27 → 1 ≤ fr ∧ 15 ≤ lo ∧ xRr G YX3_e (fr - 1) (lo - 15) [rv x0] h27 (fun x35 h34 => xext h27 h34 → 1 ≤ fr ∧ 14 ≤ lo ∧ xRr G YX15_add (fr - 1) (lo - 14) [rv a11, rv x35] h34 (fun x42 h41 => xext h34 h41 → tg h41 x1 = 16 ∧ 1 ≤ fr ∧ 13 ≤ lo ∧ xRr G YX15_add (fr - 1) (lo - 13) [rv x1, rv x42] h41 (fun x48 h47 => xext h41 h47 → lX3_argument_22 G fr lo x0 x1 (x2 + 1) h47 Q) (fun r h2 => Q (.threw r) h2)) (fun r h2 => Q (.threw r) h2)) (fun r h2 => Q (.threw r) h2)) (fun r h2 => Q (.threw r) h2)) (fun r h2 => Q (.threw r) h2))))) (fun r h2 => Q (.threw r) h2)))
set_option maxRecDepth 100000 in
theorem uX3_argument_22 {G : xG} {fr lo : Nat} {x0 : Nat} {x1 : Nat} {x2 : Int32} {h : xH} {Q : Outcome → xH → Prop} (hq : bX3_argument_22 G fr lo x0 x1 x2 h Q) : xP G YX3_argument fr lo 22 [(0, rv x0), (1, rv x1), (2, .int x2)] [] h Q := by
  unfold bX3_argument_22 at hq
  refine x_iload_n 2 dX3_argument_22 rfl ?_
  refine x_iconst (v := 2) dX3_argument_23 (by decide) ?_
  refine x_icmp_ge (tgt := 67) dX3_argument_24 (by decide) (fun c1 => ?_) (fun c1 => ?_)
  · replace hq := hq.1 c1
    refine xP.pick (lv' := [(1, rv x1)]) [1] rfl ?_
    exact uX3_argument_67 hq
  · replace hq := hq.2 c1
    refine x_aload_n 0 dX3_argument_27 rfl ?_
    refine x_ldcS (n := 65) 87 srX3_170 dX3_argument_28 ?_
    obtain ⟨g2, hq⟩ := hq
    obtain ⟨g3, g4, hq⟩ := hq
    refine x_callV (Yc := YX3_is) (as := [rv (tx G 65)]) (st := []) q1723 mvX3_is g2 rfl dX3_argument_30 (xle (xal1 (rv_cat _) (xal1 (rv_cat _) xal0)) (by decide)) (xfr g3) (xlo xsw0 (by decide) g4) (xKi hq (fun x6 h5 hq e7 => ?_) (fun _ _ q _ => q))
    replace hq := hq e7
    refine x_if_eq (tgt := 67) dX3_argument_33 (by decide) (fun c8 => ?_) (fun c8 => ?_)
    · replace hq := hq.1 c8
      refine xP.pick (lv' := [(1, rv x1)]) [1] rfl ?_
      exact uX3_argument_67 hq
    · replace hq := hq.2 c8
      refine x_aload_n 1 dX3_argument_36 rfl ?_
      obtain ⟨g9, g10, hq⟩ := hq
      obtain ⟨a11, e13⟩ : ∃ y, y = nx h5 + 1 := ⟨_, rfl⟩
      obtain ⟨h12, e14⟩ : ∃ y, y = nO h5 16 6 := ⟨_, rfl⟩
      refine x_new' cdX3_71 dX3_argument_37 g9 g10 e13 e14 (fun f15 => ?_)
      replace hq := hq a11 h12 e13 e14 f15
      have t16 : tg h12 a11 = 16 := by rw [e14, e13]; exact tg_nO
      refine x_dup dX3_argument_40 (rv_cat _) ?_
      refine x_bipush (v := 43) dX3_argument_41 (by decide) ?_
      refine x_aload_n 0 dX3_argument_43 rfl ?_
      have t17 : tg h5 x0 = 4 := e7.tg g2 (by decide)
      have t18 : tg h12 x0 = 4 := by rw [e14]; exact tg_nO_ne e13 f15 t17 (by decide)
      obtain ⟨g19, g20, hq⟩ := hq
      refine x_callV (Yc := YX3_take) (as := []) (st := [.int 43, rv a11, rv a11, rv x1]) q1738 mvX3_take t18 rfl dX3_argument_44 (xle (xal1 (rv_cat _) xal0) (by decide)) (xfr g19) (xlo (xsw1 rfl (xsw1 (rv_cat _) (xsw1 (rv_cat _) (xsw1 (rv_cat _) xsw0)))) (by decide) g20) (xKr hq (fun x22 h21 hq e23 => ?_) (fun _ _ q _ => q))
      replace hq := hq e23
      have t24 : tg h21 a11 = 16 := e23.tg t16 (by decide)
      obtain ⟨g25, g26, hq⟩ := hq
      refine x_callI (Yc := YX15_init) (as := [.int 43, rv x22]) (st := [rv a11, rv x1]) q1749 miX15_init (by rw [t24]; decide) rfl dX3_argument_47 (xle (xal1 (rv_cat _) (xal1 rfl (xal1 (rv_cat _) xal0))) (by decide)) (xfr g25) (xlo (xsw1 (rv_cat _) (xsw1 (rv_cat _) xsw0)) (by decide) g26) (xKv hq (fun h27 hq e29 => ?_) (fun _ _ q _ => q))
      replace hq := hq e29
      refine x_aload_n 0 dX3_argument_50 rfl ?_
      have t30 : tg h21 x0 = 4 := e23.tg t18 (by decide)
      have t31 : tg h27 x0 = 4 := e29.tg t30 (by decide)
      obtain ⟨g32, g33, hq⟩ := hq
      refine x_callV (Yc := YX3_e) (as := []) (st := [rv a11, rv x1]) q1928 mvX3_e t31 rfl dX3_argument_51 (xle (xal1 (rv_cat _) xal0) (by decide)) (xfr g32) (xlo (xsw1 (rv_cat _) (xsw1 (rv_cat _) xsw0)) (by decide) g33) (xKr hq (fun x35 h34 hq e36 => ?_) (fun _ _ q _ => q))
      replace hq := hq e36
      have t37 : tg h27 a11 = 16 := e29.tg t24 (by decide)
      have t38 : tg h34 a11 = 16 := e36.tg t37 (by decide)
      obtain ⟨g39, g40, hq⟩ := hq
      refine x_callV (Yc := YX15_add) (as := [rv x35]) (st := [rv x1]) q1795 mvX15_add t38 rfl dX3_argument_54 (xle (xal1 (rv_cat _) (xal1 (rv_cat _) xal0)) (by decide)) (xfr g39) (xlo (xsw1 (rv_cat _) xsw0) (by decide) g40) (xKr hq (fun x42 h41 hq e43 => ?_) (fun _ _ q _ => q))
      replace hq := hq e43
      obtain ⟨g44, hq⟩ := hq
      obtain ⟨g45, g46, hq⟩ := hq
      refine x_callV (Yc := YX15_add) (as := [rv x42]) (st := []) q1795 mvX15_add g44 rfl dX3_argument_57 (xle (xal1 (rv_cat _) (xal1 (rv_cat _) xal0)) (by decide)) (xfr g45) (xlo xsw0 (by decide) g46) (xKr hq (fun x48 h47 hq e49 => ?_) (fun _ _ q _ => q))
      replace hq := hq e49
      refine x_pop dX3_argument_60 (rv_cat _) ?_
      refine x_iinc (lv' := [(2, .int (x2 + 1)), (0, rv x0), (1, rv x1)]) 2 dX3_argument_61 rfl (by decide) (by first | rfl | (simp [rv_cat, Value.category]; done) | (simp [rv_cat, Value.category]; decide)) ?_
      refine x_goto (tgt := 22) dX3_argument_64 (by decide) ?_
      refine xP.pick (lv' := [(0, rv x0), (1, rv x1), (2, .int (x2 + 1))]) [1, 2, 0] rfl ?_
      exact hq
set_option maxRecDepth 100000 in
def bX3_argument (G : xG) (fr lo : Nat) (x0 : Nat) (h : xH) (Q : Outcome → xH → Prop) : Prop := nx h + 1 ≤ xGN G ∧ us h + 6 ≤ xGU G ∧ (∀ (a3 : Nat) (h4 : xH), a3 = nx h + 1 → h4 = nO h 16 6 → xfresh h a3 → tg h4 x0 = 4 ∧ 1 ≤ fr ∧ 15 ≤ lo ∧ xRv G YX15_init (fr - 1) (lo - 15) [rv a3, .int 0, rv (fR h4 x0 770)] h4 (fun h12 => xext h4 h12 → 1 ≤ fr ∧ 14 ≤ lo ∧ xRr G YX3_e (fr - 1) (lo - 14) [rv x0] h12 (fun x19 h18 => xext h12 h18 → 1 ≤ fr ∧ 13 ≤ lo ∧ xRr G YX15_add (fr - 1) (lo - 13) [rv a3, rv x19] h18 (fun x26 h25 => xext h18 h25 → lX3_argument_22 G fr lo x0 x26 0 h25 Q) (fun r h2 => Q (.threw r) h2)) (fun r h2 => Q (.threw r) h2)) (fun r h2 => Q (.threw r) h2))
set_option maxRecDepth 100000 in
theorem uX3_argument {G : xG} {fr lo : Nat} {x0 : Nat} {h : xH} {Q : Outcome → xH → Prop} (hq : bX3_argument G fr lo x0 h Q) : xP G YX3_argument fr lo 0 [(0, rv x0)] [] h Q := by
  unfold bX3_argument at hq
  obtain ⟨g1, g2, hq⟩ := hq
  obtain ⟨a3, e5⟩ : ∃ y, y = nx h + 1 := ⟨_, rfl⟩
  obtain ⟨h4, e6⟩ : ∃ y, y = nO h 16 6 := ⟨_, rfl⟩
  refine x_new' cdX3_71 dX3_argument_0 g1 g2 e5 e6 (fun f7 => ?_)
  replace hq := hq a3 h4 e5 e6 f7
  have t8 : tg h4 a3 = 16 := by rw [e6, e5]; exact tg_nO
  refine x_dup dX3_argument_3 (rv_cat _) ?_
  refine x_iconst (v := 0) dX3_argument_4 (by decide) ?_
  refine x_aload_n 0 dX3_argument_5 rfl ?_
  obtain ⟨g9, hq⟩ := hq
  refine x_get (v := rv (fR h4 x0 770)) fdX3_25 dX3_argument_6 g9 rfl ?_
  obtain ⟨g10, g11, hq⟩ := hq
  refine x_callI (Yc := YX15_init) (as := [.int 0, rv (fR h4 x0 770)]) (st := [rv a3]) q1749 miX15_init (by rw [t8]; decide) rfl dX3_argument_9 (xle (xal1 (rv_cat _) (xal1 rfl (xal1 (rv_cat _) xal0))) (by decide)) (xfr g10) (xlo (xsw1 (rv_cat _) xsw0) (by decide) g11) (xKv hq (fun h12 hq e14 => ?_) (fun _ _ q _ => q))
  replace hq := hq e14
  refine x_aload_n 0 dX3_argument_12 rfl ?_
  have t15 : tg h12 x0 = 4 := e14.tg g9 (by decide)
  obtain ⟨g16, g17, hq⟩ := hq
  refine x_callV (Yc := YX3_e) (as := []) (st := [rv a3]) q1928 mvX3_e t15 rfl dX3_argument_13 (xle (xal1 (rv_cat _) xal0) (by decide)) (xfr g16) (xlo (xsw1 (rv_cat _) xsw0) (by decide) g17) (xKr hq (fun x19 h18 hq e20 => ?_) (fun _ _ q _ => q))
  replace hq := hq e20
  have t21 : tg h12 a3 = 16 := e14.tg t8 (by decide)
  have t22 : tg h18 a3 = 16 := e20.tg t21 (by decide)
  obtain ⟨g23, g24, hq⟩ := hq
  refine x_callV (Yc := YX15_add) (as := [rv x19]) (st := []) q1795 mvX15_add t22 rfl dX3_argument_16 (xle (xal1 (rv_cat _) (xal1 (rv_cat _) xal0)) (by decide)) (xfr g23) (xlo xsw0 (by decide) g24) (xKr hq (fun x26 h25 hq e27 => ?_) (fun _ _ q _ => q))
  replace hq := hq e27
  refine x_astore_n (lv' := [(1, rv x26), (0, rv x0)]) dX3_argument_19 (by decide) (by first | rfl | (simp [rv_cat, Value.category]; done) | (simp [rv_cat, Value.category]; decide)) ?_
  refine x_iconst (v := 0) dX3_argument_20 (by decide) ?_
  refine x_istore_n (lv' := [(2, .int 0), (1, rv x26), (0, rv x0)]) dX3_argument_21 (by decide) (by first | rfl | (simp [rv_cat, Value.category]; done) | (simp [rv_cat, Value.category]; decide)) ?_
  refine xP.pick (lv' := [(0, rv x0), (1, rv x26), (2, .int 0)]) [2, 1, 0] rfl ?_
  exact hq
theorem rX3_argument {G : xG} {fr lo : Nat} {x0 : Nat} {h : xH} {Q : Outcome → xH → Prop} (hq : bX3_argument G fr lo x0 h Q) : xR G YX3_argument fr lo [rv x0] h Q := by
  show xP _ _ _ _ _ (lv_args 0 _) _ _ _
  rw [show lv_args 0 [rv x0] = [(0, rv x0)] from (xla1 (rv_cat _) xla0)]
  exact uX3_argument hq
set_option maxRecDepth 100000 in
theorem dX3_caseOf_0 : decode cX3_caseOf 0 = .ok (.new 71, 3) := by decide +kernel
set_option maxRecDepth 100000 in
theorem dX3_caseOf_3 : decode cX3_caseOf 3 = .ok (.dup, 1) := by decide +kernel
set_option maxRecDepth 100000 in
theorem dX3_caseOf_4 : decode cX3_caseOf 4 = .ok (.bipush 31, 2) := by decide +kernel
set_option maxRecDepth 100000 in
theorem dX3_caseOf_6 : decode cX3_caseOf 6 = .ok (.aload_n 1, 1) := by decide +kernel
set_option maxRecDepth 100000 in
theorem dX3_caseOf_7 : decode cX3_caseOf 7 = .ok (.invokespecial 77, 3) := by decide +kernel
set_option maxRecDepth 100000 in
theorem dX3_caseOf_10 : decode cX3_caseOf 10 = .ok (.aload_n 0, 1) := by decide +kernel
set_option maxRecDepth 100000 in
theorem dX3_caseOf_11 : decode cX3_caseOf 11 = .ok (.invokevirtual 261, 3) := by decide +kernel
set_option maxRecDepth 100000 in
theorem dX3_caseOf_14 : decode cX3_caseOf 14 = .ok (.invokevirtual 84, 3) := by decide +kernel
set_option maxRecDepth 100000 in
theorem dX3_caseOf_17 : decode cX3_caseOf 17 = .ok (.astore_n 2, 1) := by decide +kernel
set_option maxRecDepth 100000 in
theorem dX3_caseOf_18 : decode cX3_caseOf 18 = .ok (.aload_n 0, 1) := by decide +kernel
set_option maxRecDepth 100000 in
theorem dX3_caseOf_19 : decode cX3_caseOf 19 = .ok (.ldc 225, 2) := by decide +kernel
set_option maxRecDepth 100000 in
theorem dX3_caseOf_21 : decode cX3_caseOf 21 = .ok (.invokevirtual 99, 3) := by decide +kernel
set_option maxRecDepth 100000 in
theorem dX3_caseOf_24 : decode cX3_caseOf 24 = .ok (.pop, 1) := by decide +kernel
set_option maxRecDepth 100000 in
theorem dX3_caseOf_25 : decode cX3_caseOf 25 = .ok (.aload_n 0, 1) := by decide +kernel
set_option maxRecDepth 100000 in
theorem dX3_caseOf_26 : decode cX3_caseOf 26 = .ok (.ldc 113, 2) := by decide +kernel
set_option maxRecDepth 100000 in
theorem dX3_caseOf_28 : decode cX3_caseOf 28 = .ok (.invokevirtual 60, 3) := by decide +kernel
set_option maxRecDepth 100000 in
theorem dX3_caseOf_31 : decode cX3_caseOf 31 = .ok (.ifCond .ne 81, 3) := by decide +kernel
set_option maxRecDepth 100000 in
theorem dX3_caseOf_34 : decode cX3_caseOf 34 = .ok (.aload_n 0, 1) := by decide +kernel
set_option maxRecDepth 100000 in
theorem dX3_caseOf_35 : decode cX3_caseOf 35 = .ok (.ldc 230, 2) := by decide +kernel
set_option maxRecDepth 100000 in
theorem dX3_caseOf_37 : decode cX3_caseOf 37 = .ok (.invokevirtual 60, 3) := by decide +kernel
set_option maxRecDepth 100000 in
theorem dX3_caseOf_40 : decode cX3_caseOf 40 = .ok (.ifCond .eq 6, 3) := by decide +kernel
set_option maxRecDepth 100000 in
theorem dX3_caseOf_43 : decode cX3_caseOf 43 = .ok (.goto 69, 3) := by decide +kernel
set_option maxRecDepth 100000 in
theorem dX3_caseOf_46 : decode cX3_caseOf 46 = .ok (.new 71, 3) := by decide +kernel
set_option maxRecDepth 100000 in
theorem dX3_caseOf_49 : decode cX3_caseOf 49 = .ok (.dup, 1) := by decide +kernel
set_option maxRecDepth 100000 in
theorem dX3_caseOf_50 : decode cX3_caseOf 50 = .ok (.iconst 0, 1) := by decide +kernel
set_option maxRecDepth 100000 in
theorem dX3_caseOf_51 : decode cX3_caseOf 51 = .ok (.aload_n 0, 1) := by decide +kernel
set_option maxRecDepth 100000 in
theorem dX3_caseOf_52 : decode cX3_caseOf 52 = .ok (.getfield 25, 3) := by decide +kernel
set_option maxRecDepth 100000 in
theorem dX3_caseOf_55 : decode cX3_caseOf 55 = .ok (.invokespecial 77, 3) := by decide +kernel
set_option maxRecDepth 100000 in
theorem dX3_caseOf_58 : decode cX3_caseOf 58 = .ok (.astore_n 3, 1) := by decide +kernel
set_option maxRecDepth 100000 in
theorem dX3_caseOf_59 : decode cX3_caseOf 59 = .ok (.aload_n 3, 1) := by decide +kernel
set_option maxRecDepth 100000 in
theorem dX3_caseOf_60 : decode cX3_caseOf 60 = .ok (.aload_n 0, 1) := by decide +kernel
set_option maxRecDepth 100000 in
theorem dX3_caseOf_61 : decode cX3_caseOf 61 = .ok (.invokevirtual 154, 3) := by decide +kernel
set_option maxRecDepth 100000 in
theorem dX3_caseOf_64 : decode cX3_caseOf 64 = .ok (.invokevirtual 84, 3) := by decide +kernel
set_option maxRecDepth 100000 in
theorem dX3_caseOf_67 : decode cX3_caseOf 67 = .ok (.pop, 1) := by decide +kernel
set_option maxRecDepth 100000 in
theorem dX3_caseOf_68 : decode cX3_caseOf 68 = .ok (.aload_n 0, 1) := by decide +kernel
set_option maxRecDepth 100000 in
theorem dX3_caseOf_69 : decode cX3_caseOf 69 = .ok (.ldc 88, 2) := by decide +kernel
set_option maxRecDepth 100000 in
theorem dX3_caseOf_71 : decode cX3_caseOf 71 = .ok (.invokevirtual 90, 3) := by decide +kernel
set_option maxRecDepth 100000 in
theorem dX3_caseOf_74 : decode cX3_caseOf 74 = .ok (.ifCond .ne (-15), 3) := by decide +kernel
set_option maxRecDepth 100000 in
theorem dX3_caseOf_77 : decode cX3_caseOf 77 = .ok (.new 71, 3) := by decide +kernel
set_option maxRecDepth 100000 in
theorem dX3_caseOf_80 : decode cX3_caseOf 80 = .ok (.dup, 1) := by decide +kernel
set_option maxRecDepth 100000 in
theorem dX3_caseOf_81 : decode cX3_caseOf 81 = .ok (.bipush 32, 2) := by decide +kernel
set_option maxRecDepth 100000 in
theorem dX3_caseOf_83 : decode cX3_caseOf 83 = .ok (.aload_n 0, 1) := by decide +kernel
set_option maxRecDepth 100000 in
theorem dX3_caseOf_84 : decode cX3_caseOf 84 = .ok (.ldc 170, 2) := by decide +kernel
set_option maxRecDepth 100000 in
theorem dX3_caseOf_86 : decode cX3_caseOf 86 = .ok (.invokevirtual 99, 3) := by decide +kernel
set_option maxRecDepth 100000 in
theorem dX3_caseOf_89 : decode cX3_caseOf 89 = .ok (.invokespecial 77, 3) := by decide +kernel
set_option maxRecDepth 100000 in
theorem dX3_caseOf_92 : decode cX3_caseOf 92 = .ok (.astore 4, 2) := by decide +kernel
set_option maxRecDepth 100000 in
theorem dX3_caseOf_94 : decode cX3_caseOf 94 = .ok (.aload_n 2, 1) := by decide +kernel
set_option maxRecDepth 100000 in
theorem dX3_caseOf_95 : decode cX3_caseOf 95 = .ok (.aload 4, 2) := by decide +kernel
set_option maxRecDepth 100000 in
theorem dX3_caseOf_97 : decode cX3_caseOf 97 = .ok (.aload_n 3, 1) := by decide +kernel
set_option maxRecDepth 100000 in
theorem dX3_caseOf_98 : decode cX3_caseOf 98 = .ok (.invokevirtual 84, 3) := by decide +kernel
set_option maxRecDepth 100000 in
theorem dX3_caseOf_101 : decode cX3_caseOf 101 = .ok (.aload_n 0, 1) := by decide +kernel
set_option maxRecDepth 100000 in
theorem dX3_caseOf_102 : decode cX3_caseOf 102 = .ok (.invokevirtual 250, 3) := by decide +kernel
set_option maxRecDepth 100000 in
theorem dX3_caseOf_105 : decode cX3_caseOf 105 = .ok (.invokevirtual 84, 3) := by decide +kernel
set_option maxRecDepth 100000 in
theorem dX3_caseOf_108 : decode cX3_caseOf 108 = .ok (.invokevirtual 84, 3) := by decide +kernel
set_option maxRecDepth 100000 in
theorem dX3_caseOf_111 : decode cX3_caseOf 111 = .ok (.pop, 1) := by decide +kernel
set_option maxRecDepth 100000 in
theorem dX3_caseOf_112 : decode cX3_caseOf 112 = .ok (.aload_n 0, 1) := by decide +kernel
set_option maxRecDepth 100000 in
theorem dX3_caseOf_113 : decode cX3_caseOf 113 = .ok (.ldc 113, 2) := by decide +kernel
set_option maxRecDepth 100000 in
theorem dX3_caseOf_115 : decode cX3_caseOf 115 = .ok (.invokevirtual 90, 3) := by decide +kernel
set_option maxRecDepth 100000 in
theorem dX3_caseOf_118 : decode cX3_caseOf 118 = .ok (.ifCond .ne (-93), 3) := by decide +kernel
set_option maxRecDepth 100000 in
theorem dX3_caseOf_121 : decode cX3_caseOf 121 = .ok (.aload_n 0, 1) := by decide +kernel
set_option maxRecDepth 100000 in
theorem dX3_caseOf_122 : decode cX3_caseOf 122 = .ok (.ldc 230, 2) := by decide +kernel
set_option maxRecDepth 100000 in
theorem dX3_caseOf_124 : decode cX3_caseOf 124 = .ok (.invokevirtual 99, 3) := by decide +kernel
set_option maxRecDepth 100000 in
theorem dX3_caseOf_127 : decode cX3_caseOf 127 = .ok (.pop, 1) := by decide +kernel
set_option maxRecDepth 100000 in
theorem dX3_caseOf_128 : decode cX3_caseOf 128 = .ok (.aload_n 2, 1) := by decide +kernel
set_option maxRecDepth 100000 in
theorem dX3_caseOf_129 : decode cX3_caseOf 129 = .ok (.areturn, 1) := by decide +kernel
def lX3_caseOf_25 (G : xG) (fr lo : Nat) (x0 : Nat) (x2 : Nat) (h : xH) (Q : Outcome → xH → Prop) : Prop := xP G YX3_caseOf fr lo 25 [(0, rv x0), (2, rv x2)] [] h Q
def lX3_caseOf_59 (G : xG) (fr lo : Nat) (x0 : Nat) (x2 : Nat) (x3 : Nat) (h : xH) (Q : Outcome → xH → Prop) : Prop := xP G YX3_caseOf fr lo 59 [(0, rv x0), (2, rv x2), (3, rv x3)] [] h Q
set_option maxRecDepth 100000 in
def bX3_caseOf_112 (G : xG) (fr lo : Nat) (x0 : Nat) (x2 : Nat) (h : xH) (Q : Outcome → xH → Prop) : Prop := tg h x0 = 4 ∧ 1 ≤ fr ∧ 13 ≤ lo ∧ xRi G YX3_has (fr - 1) (lo - 13) [rv x0, rv (tx G 64)] h (fun x5 h4 => xext h h4 → ((¬ x5 = 0 → lX3_caseOf_25 G fr lo x0 x2 h4 Q) ∧ (x5 = 0 → 1 ≤ fr ∧ 13 ≤ lo ∧ xRr G YX3_need (fr - 1) (lo - 13) [rv x0, rv (tx G 9)] h4 (fun x12 h11 => xext h4 h11 → Q (.returned (some (rv x2))) h11) (fun r h2 => Q (.threw r) h2)))) (fun r h2 => Q (.threw r) h2)
set_option maxRecDepth 100000 in
theorem uX3_caseOf_112 {G : xG} {fr lo : Nat} {x0 : Nat} {x2 : Nat} {h : xH} {Q : Outcome → xH → Prop} (hq : bX3_caseOf_112 G fr lo x0 x2 h Q) : xP G YX3_caseOf fr lo 112 [(0, rv x0), (2, rv x2)] [] h Q := by
  unfold bX3_caseOf_112 at hq
  refine x_aload_n 0 dX3_caseOf_112 rfl ?_
  refine x_ldcS (n := 64) 71 srX3_113 dX3_caseOf_113 ?_
  obtain ⟨g1, hq⟩ := hq
  obtain ⟨g2, g3, hq⟩ := hq
  refine x_callV (Yc := YX3_has) (as := [rv (tx G 64)]) (st := []) q1783 mvX3_has g1 rfl dX3_caseOf_115 (xle (xal1 (rv_cat _) (xal1 (rv_cat _) xal0)) (by decide)) (xfr g2) (xlo xsw0 (by decide) g3) (xKi hq (fun x5 h4 hq e6 => ?_) (fun _ _ q _ => q))
  replace hq := hq e6
  refine x_if_ne (tgt := 25) dX3_caseOf_118 (by decide) (fun c7 => ?_) (fun c7 => ?_)
  · replace hq := hq.1 c7
    exact hq
  · replace hq := hq.2 c7
    refine x_aload_n 0 dX3_caseOf_121 rfl ?_
    refine x_ldcS (n := 9) 88 srX3_230 dX3_caseOf_122 ?_
    have t8 : tg h4 x0 = 4 := e6.tg g1 (by decide)
    obtain ⟨g9, g10, hq⟩ := hq
    refine x_callV (Yc := YX3_need) (as := [rv (tx G 9)]) (st := []) q1719 mvX3_need t8 rfl dX3_caseOf_124 (xle (xal1 (rv_cat _) (xal1 (rv_cat _) xal0)) (by decide)) (xfr g9) (xlo xsw0 (by decide) g10) (xKr hq (fun x12 h11 hq e13 => ?_) (fun _ _ q _ => q))
    replace hq := hq e13
    refine x_pop dX3_caseOf_127 (rv_cat _) ?_
    refine x_aload_n 1 dX3_caseOf_128 rfl ?_
    exact x_aret rfl xty_O dX3_caseOf_129 hq
set_option maxRecDepth 100000 in
def bX3_caseOf_59 (G : xG) (fr lo : Nat) (x0 : Nat) (x2 : Nat) (x3 : Nat) (h : xH) (Q : Outcome → xH → Prop) : Prop := tg h x0 = 4 ∧ 1 ≤ fr ∧ 15 ≤ lo ∧ xRr G YX3_constant (fr - 1) (lo - 15) [rv x0] h (fun x5 h4 => xext h h4 → tg h4 x3 = 16 ∧ 1 ≤ fr ∧ 13 ≤ lo ∧ xRr G YX15_add (fr - 1) (lo - 13) [rv x3, rv x5] h4 (fun x11 h10 => xext h4 h10 → 1 ≤ fr ∧ 13 ≤ lo ∧ xRi G YX3_has (fr - 1) (lo - 13) [rv x0, rv (tx G 63)] h10 (fun x18 h17 => xext h10 h17 → ((¬ x18 = 0 → lX3_caseOf_59 G fr lo x0 x2 x3 h17 Q) ∧ (x18 = 0 → nx h17 + 1 ≤ xGN G ∧ us h17 + 6 ≤ xGU G ∧ (∀ (a23 : Nat) (h24 : xH), a23 = nx h17 + 1 → h24 = nO h17 16 6 → xfresh h17 a23 → 1 ≤ fr ∧ 16 ≤ lo ∧ xRr G YX3_need (fr - 1) (lo - 16) [rv x0, rv (tx G 65)] h24 (fun x34 h33 => xext h24 h33 → 1 ≤ fr ∧ 15 ≤ lo ∧ xRv G YX15_init (fr - 1) (lo - 15) [rv a23, .int 32, rv x34] h33 (fun h39 => xext h33 h39 → 1 ≤ fr ∧ 14 ≤ lo ∧ xRr G YX15_add (fr - 1) (lo - 14) [rv a23, rv x3] h39 (fun x46 h45 => xext h39 h45 → 1 ≤ fr ∧ 15 ≤ lo ∧ xRr G YX3_statement (fr - 1) (lo - 15) [rv x0] h45 (fun x54 h53 => xext h45 h53 → tg h53 x46 = 16 ∧ 1 ≤ fr ∧ 14 ≤ lo ∧ xRr G YX15_add (fr - 1) (lo - 14) [rv x46, rv x54] h53 (fun x60 h59 => xext h53 h59 → tg h59 x2 = 16 ∧ 1 ≤ fr ∧ 13 ≤ lo ∧ xRr G YX15_add (fr - 1) (lo - 13) [rv x2, rv x60] h59 (fun x66 h65 => xext h59 h65 → bX3_caseOf_112 G fr lo x0 x2 h65 Q) (fun r h2 => Q (.threw r) h2)) (fun r h2 => Q (.threw r) h2)) (fun r h2 => Q (.threw r) h2)) (fun r h2 => Q (.threw r) h2)) (fun r h2 => Q (.threw r) h2)) (fun r h2 => Q (.threw r) h2))))) (fun r h2 => Q (.threw r) h2)) (fun r h2 => Q (.threw r) h2)) (fun r h2 => Q (.threw r) h2)
set_option maxRecDepth 100000 in
theorem uX3_caseOf_59 {G : xG} {fr lo : Nat} {x0 : Nat} {x2 : Nat} {x3 : Nat} {h : xH} {Q : Outcome → xH → Prop} (hq : bX3_caseOf_59 G fr lo x0 x2 x3 h Q) : xP G YX3_caseOf fr lo 59 [(0, rv x0), (2, rv x2), (3, rv x3)] [] h Q := by
  unfold bX3_caseOf_59 at hq
  refine x_aload_n 2 dX3_caseOf_59 rfl ?_
  refine x_aload_n 0 dX3_caseOf_60 rfl ?_
  obtain ⟨g1, hq⟩ := hq
  obtain ⟨g2, g3, hq⟩ := hq
  refine x_callV (Yc := YX3_constant) (as := []) (st := [rv x3]) q1818 mvX3_constant g1 rfl dX3_caseOf_61 (xle (xal1 (rv_cat _) xal0) (by decide)) (xfr g2) (xlo (xsw1 (rv_cat _) xsw0) (by decide) g3) (xKr hq (fun x5 h4 hq e6 => ?_) (fun _ _ q _ => q))
  replace hq := hq e6
  obtain ⟨g7, hq⟩ := hq
  obtain ⟨g8, g9, hq⟩ := hq
  refine x_callV (Yc := YX15_add) (as := [rv x5]) (st := []) q1795 mvX15_add g7 rfl dX3_caseOf_64 (xle (xal1 (rv_cat _) (xal1 (rv_cat _) xal0)) (by decide)) (xfr g8) (xlo xsw0 (by decide) g9) (xKr hq (fun x11 h10 hq e12 => ?_) (fun _ _ q _ => q))
  replace hq := hq e12
  refine x_pop dX3_caseOf_67 (rv_cat _) ?_
  refine x_aload_n 0 dX3_caseOf_68 rfl ?_
  refine x_ldcS (n := 63) 69 srX3_88 dX3_caseOf_69 ?_
  have t13 : tg h4 x0 = 4 := e6.tg g1 (by decide)
  have t14 : tg h10 x0 = 4 := e12.tg t13 (by decide)
  obtain ⟨g15, g16, hq⟩ := hq
  refine x_callV (Yc := YX3_has) (as := [rv (tx G 63)]) (st := []) q1783 mvX3_has t14 rfl dX3_caseOf_71 (xle (xal1 (rv_cat _) (xal1 (rv_cat _) xal0)) (by decide)) (xfr g15) (xlo xsw0 (by decide) g16) (xKi hq (fun x18 h17 hq e19 => ?_) (fun _ _ q _ => q))
  replace hq := hq e19
  refine x_if_ne (tgt := 59) dX3_caseOf_74 (by decide) (fun c20 => ?_) (fun c20 => ?_)
  · replace hq := hq.1 c20
    exact hq
  · replace hq := hq.2 c20
    obtain ⟨g21, g22, hq⟩ := hq
    obtain ⟨a23, e25⟩ : ∃ y, y = nx h17 + 1 := ⟨_, rfl⟩
    obtain ⟨h24, e26⟩ : ∃ y, y = nO h17 16 6 := ⟨_, rfl⟩
    refine x_new' cdX3_71 dX3_caseOf_77 g21 g22 e25 e26 (fun f27 => ?_)
    replace hq := hq a23 h24 e25 e26 f27
    have t28 : tg h24 a23 = 16 := by rw [e26, e25]; exact tg_nO
    refine x_dup dX3_caseOf_80 (rv_cat _) ?_
    refine x_bipush (v := 32) dX3_caseOf_81 (by decide) ?_
    refine x_aload_n 0 dX3_caseOf_83 rfl ?_
    refine x_ldcS (n := 65) 87 srX3_170 dX3_caseOf_84 ?_
    have t29 : tg h17 x0 = 4 := e19.tg t14 (by decide)
    have t30 : tg h24 x0 = 4 := by rw [e26]; exact tg_nO_ne e25 f27 t29 (by decide)
    obtain ⟨g31, g32, hq⟩ := hq
    refine x_callV (Yc := YX3_need) (as := [rv (tx G 65)]) (st := [.int 32, rv a23, rv a23]) q1719 mvX3_need t30 rfl dX3_caseOf_86 (xle (xal1 (rv_cat _) (xal1 (rv_cat _) xal0)) (by decide)) (xfr g31) (xlo (xsw1 rfl (xsw1 (rv_cat _) (xsw1 (rv_cat _) xsw0))) (by decide) g32) (xKr hq (fun x34 h33 hq e35 => ?_) (fun _ _ q _ => q))
    replace hq := hq e35
    have t36 : tg h33 a23 = 16 := e35.tg t28 (by decide)
    obtain ⟨g37, g38, hq⟩ := hq
    refine x_callI (Yc := YX15_init) (as := [.int 32, rv x34]) (st := [rv a23]) q1749 miX15_init (by rw [t36]; decide) rfl dX3_caseOf_89 (xle (xal1 (rv_cat _) (xal1 rfl (xal1 (rv_cat _) xal0))) (by decide)) (xfr g37) (xlo (xsw1 (rv_cat _) xsw0) (by decide) g38) (xKv hq (fun h39 hq e41 => ?_) (fun _ _ q _ => q))
    replace hq := hq e41
    refine x_astore (lv' := [(4, rv a23), (0, rv x0), (2, rv x2), (3, rv x3)]) dX3_caseOf_92 (by decide) (by first | rfl | (simp [rv_cat, Value.category]; done) | (simp [rv_cat, Value.category]; decide)) ?_
    refine x_aload_n 2 dX3_caseOf_94 rfl ?_
    refine x_aload 0 dX3_caseOf_95 rfl ?_
    refine x_aload_n 3 dX3_caseOf_97 rfl ?_
    have t42 : tg h39 a23 = 16 := e41.tg t36 (by decide)
    obtain ⟨g43, g44, hq⟩ := hq
    refine x_callV (Yc := YX15_add) (as := [rv x3]) (st := [rv x2]) q1795 mvX15_add t42 rfl dX3_caseOf_98 (xle (xal1 (rv_cat _) (xal1 (rv_cat _) xal0)) (by decide)) (xfr g43) (xlo (xsw1 (rv_cat _) xsw0) (by decide) g44) (xKr hq (fun x46 h45 hq e47 => ?_) (fun _ _ q _ => q))
    replace hq := hq e47
    refine x_aload_n 1 dX3_caseOf_101 rfl ?_
    have t48 : tg h33 x0 = 4 := e35.tg t30 (by decide)
    have t49 : tg h39 x0 = 4 := e41.tg t48 (by decide)
    have t50 : tg h45 x0 = 4 := e47.tg t49 (by decide)
    obtain ⟨g51, g52, hq⟩ := hq
    refine x_callV (Yc := YX3_statement) (as := []) (st := [rv x46, rv x2]) q1910 mvX3_statement t50 rfl dX3_caseOf_102 (xle (xal1 (rv_cat _) xal0) (by decide)) (xfr g51) (xlo (xsw1 (rv_cat _) (xsw1 (rv_cat _) xsw0)) (by decide) g52) (xKr hq (fun x54 h53 hq e55 => ?_) (fun _ _ q _ => q))
    replace hq := hq e55
    obtain ⟨g56, hq⟩ := hq
    obtain ⟨g57, g58, hq⟩ := hq
    refine x_callV (Yc := YX15_add) (as := [rv x54]) (st := [rv x2]) q1795 mvX15_add g56 rfl dX3_caseOf_105 (xle (xal1 (rv_cat _) (xal1 (rv_cat _) xal0)) (by decide)) (xfr g57) (xlo (xsw1 (rv_cat _) xsw0) (by decide) g58) (xKr hq (fun x60 h59 hq e61 => ?_) (fun _ _ q _ => q))
    replace hq := hq e61
    obtain ⟨g62, hq⟩ := hq
    obtain ⟨g63, g64, hq⟩ := hq
    refine x_callV (Yc := YX15_add) (as := [rv x60]) (st := []) q1795 mvX15_add g62 rfl dX3_caseOf_108 (xle (xal1 (rv_cat _) (xal1 (rv_cat _) xal0)) (by decide)) (xfr g63) (xlo xsw0 (by decide) g64) (xKr hq (fun x66 h65 hq e67 => ?_) (fun _ _ q _ => q))
    replace hq := hq e67
    refine x_pop dX3_caseOf_111 (rv_cat _) ?_
    refine xP.pick (lv' := [(0, rv x0), (2, rv x2)]) [1, 2] rfl ?_
    exact uX3_caseOf_112 hq
set_option maxRecDepth 100000 in
def bX3_caseOf_25 (G : xG) (fr lo : Nat) (x0 : Nat) (x2 : Nat) (h : xH) (Q : Outcome → xH → Prop) : Prop := tg h x0 = 4 ∧ 1 ≤ fr ∧ 13 ≤ lo ∧ xRi G YX3_is (fr - 1) (lo - 13) [rv x0, rv (tx G 64)] h (fun x5 h4 => xext h h4 → ((¬ x5 = 0 → bX3_caseOf_112 G fr lo x0 x2 h4 Q) ∧ (x5 = 0 → 1 ≤ fr ∧ 13 ≤ lo ∧ xRi G YX3_is (fr - 1) (lo - 13) [rv x0, rv (tx G 9)] h4 (fun x12 h11 => xext h4 h11 → ((x12 = 0 → nx h11 + 1 ≤ xGN G ∧ us h11 + 6 ≤ xGU G ∧ (∀ (a17 : Nat) (h18 : xH), a17 = nx h11 + 1 → h18 = nO h11 16 6 → xfresh h11 a17 → 1 ≤ fr ∧ 15 ≤ lo ∧ xRv G YX15_init (fr - 1) (lo - 15) [rv a17, .int 0, rv (fR h18 x0 770)] h18 (fun h27 => xext h18 h27 → lX3_caseOf_59 G fr lo x0 x2 a17 h27 Q) (fun r h2 => Q (.threw r) h2))) ∧ (¬ x12 = 0 → bX3_caseOf_112 G fr lo x0 x2 h11 Q))) (fun r h2 => Q (.threw r) h2)))) (fun r h2 => Q (.threw r) h2)
set_option maxRecDepth 100000 in
theorem uX3_caseOf_25 {G : xG} {fr lo : Nat} {x0 : Nat} {x2 : Nat} {h : xH} {Q : Outcome → xH → Prop} (hq : bX3_caseOf_25 G fr lo x0 x2 h Q) : xP G YX3_caseOf fr lo 25 [(0, rv x0), (2, rv x2)] [] h Q := by
  unfold bX3_caseOf_25 at hq
  refine x_aload_n 0 dX3_caseOf_25 rfl ?_
  refine x_ldcS (n := 64) 71 srX3_113 dX3_caseOf_26 ?_
  obtain ⟨g1, hq⟩ := hq
  obtain ⟨g2, g3, hq⟩ := hq
  refine x_callV (Yc := YX3_is) (as := [rv (tx G 64)]) (st := []) q1723 mvX3_is g1 rfl dX3_caseOf_28 (xle (xal1 (rv_cat _) (xal1 (rv_cat _) xal0)) (by decide)) (xfr g2) (xlo xsw0 (by decide) g3) (xKi hq (fun x5 h4 hq e6 => ?_) (fun _ _ q _ => q))
  replace hq := hq e6
  refine x_if_ne (tgt := 112) dX3_caseOf_31 (by decide) (fun c7 => ?_) (fun c7 => ?_)
  · replace hq := hq.1 c7
    exact uX3_caseOf_112 hq
  · replace hq := hq.2 c7
    refine x_aload_n 0 dX3_caseOf_34 rfl ?_
    refine x_ldcS (n := 9) 88 srX3_230 dX3_caseOf_35 ?_
    have t8 : tg h4 x0 = 4 := e6.tg g1 (by decide)
    obtain ⟨g9, g10, hq⟩ := hq
    refine x_callV (Yc := YX3_is) (as := [rv (tx G 9)]) (st := []) q1723 mvX3_is t8 rfl dX3_caseOf_37 (xle (xal1 (rv_cat _) (xal1 (rv_cat _) xal0)) (by decide)) (xfr g9) (xlo xsw0 (by decide) g10) (xKi hq (fun x12 h11 hq e13 => ?_) (fun _ _ q _ => q))
    replace hq := hq e13
    refine x_if_eq (tgt := 46) dX3_caseOf_40 (by decide) (fun c14 => ?_) (fun c14 => ?_)
    · replace hq := hq.1 c14
      obtain ⟨g15, g16, hq⟩ := hq
      obtain ⟨a17, e19⟩ : ∃ y, y = nx h11 + 1 := ⟨_, rfl⟩
      obtain ⟨h18, e20⟩ : ∃ y, y = nO h11 16 6 := ⟨_, rfl⟩
      refine x_new' cdX3_71 dX3_caseOf_46 g15 g16 e19 e20 (fun f21 => ?_)
      replace hq := hq a17 h18 e19 e20 f21
      have t22 : tg h18 a17 = 16 := by rw [e20, e19]; exact tg_nO
      refine x_dup dX3_caseOf_49 (rv_cat _) ?_
      refine x_iconst (v := 0) dX3_caseOf_50 (by decide) ?_
      refine x_aload_n 0 dX3_caseOf_51 rfl ?_
      have t23 : tg h11 x0 = 4 := e13.tg t8 (by decide)
      have t24 : tg h18 x0 = 4 := by rw [e20]; exact tg_nO_ne e19 f21 t23 (by decide)
      refine x_get (v := rv (fR h18 x0 770)) fdX3_25 dX3_caseOf_52 t24 rfl ?_
      obtain ⟨g25, g26, hq⟩ := hq
      refine x_callI (Yc := YX15_init) (as := [.int 0, rv (fR h18 x0 770)]) (st := [rv a17]) q1749 miX15_init (by rw [t22]; decide) rfl dX3_caseOf_55 (xle (xal1 (rv_cat _) (xal1 rfl (xal1 (rv_cat _) xal0))) (by decide)) (xfr g25) (xlo (xsw1 (rv_cat _) xsw0) (by decide) g26) (xKv hq (fun h27 hq e29 => ?_) (fun _ _ q _ => q))
      replace hq := hq e29
      refine x_astore_n (lv' := [(3, rv a17), (0, rv x0), (2, rv x2)]) dX3_caseOf_58 (by decide) (by first | rfl | (simp [rv_cat, Value.category]; done) | (simp [rv_cat, Value.category]; decide)) ?_
      refine xP.pick (lv' := [(0, rv x0), (2, rv x2), (3, rv a17)]) [1, 2, 0] rfl ?_
      exact hq
    · replace hq := hq.2 c14
      refine x_goto (tgt := 112) dX3_caseOf_43 (by decide) ?_
      exact uX3_caseOf_112 hq
set_option maxRecDepth 100000 in
def bX3_caseOf (G : xG) (fr lo : Nat) (x0 : Nat) (x1 : Nat) (h : xH) (Q : Outcome → xH → Prop) : Prop := nx h + 1 ≤ xGN G ∧ us h + 6 ≤ xGU G ∧ (∀ (a3 : Nat) (h4 : xH), a3 = nx h + 1 → h4 = nO h 16 6 → xfresh h a3 → 1 ≤ fr ∧ 15 ≤ lo ∧ xRv G YX15_init (fr - 1) (lo - 15) [rv a3, .int 31, rv x1] h4 (fun h11 => xext h4 h11 → tg h11 x0 = 4 ∧ 1 ≤ fr ∧ 14 ≤ lo ∧ xRr G YX3_e (fr - 1) (lo - 14) [rv x0] h11 (fun x18 h17 => xext h11 h17 → 1 ≤ fr ∧ 13 ≤ lo ∧ xRr G YX15_add (fr - 1) (lo - 13) [rv a3, rv x18] h17 (fun x25 h24 => xext h17 h24 → 1 ≤ fr ∧ 13 ≤ lo ∧ xRr G YX3_need (fr - 1) (lo - 13) [rv x0, rv (tx G 20)] h24 (fun x32 h31 => xext h24 h31 → lX3_caseOf_25 G fr lo x0 x25 h31 Q) (fun r h2 => Q (.threw r) h2)) (fun r h2 => Q (.threw r) h2)) (fun r h2 => Q (.threw r) h2)) (fun r h2 => Q (.threw r) h2))
set_option maxRecDepth 100000 in
theorem uX3_caseOf {G : xG} {fr lo : Nat} {x0 : Nat} {x1 : Nat} {h : xH} {Q : Outcome → xH → Prop} (hq : bX3_caseOf G fr lo x0 x1 h Q) : xP G YX3_caseOf fr lo 0 [(0, rv x0), (1, rv x1)] [] h Q := by
  unfold bX3_caseOf at hq
  obtain ⟨g1, g2, hq⟩ := hq
  obtain ⟨a3, e5⟩ : ∃ y, y = nx h + 1 := ⟨_, rfl⟩
  obtain ⟨h4, e6⟩ : ∃ y, y = nO h 16 6 := ⟨_, rfl⟩
  refine x_new' cdX3_71 dX3_caseOf_0 g1 g2 e5 e6 (fun f7 => ?_)
  replace hq := hq a3 h4 e5 e6 f7
  have t8 : tg h4 a3 = 16 := by rw [e6, e5]; exact tg_nO
  refine x_dup dX3_caseOf_3 (rv_cat _) ?_
  refine x_bipush (v := 31) dX3_caseOf_4 (by decide) ?_
  refine x_aload_n 1 dX3_caseOf_6 rfl ?_
  obtain ⟨g9, g10, hq⟩ := hq
  refine x_callI (Yc := YX15_init) (as := [.int 31, rv x1]) (st := [rv a3]) q1749 miX15_init (by rw [t8]; decide) rfl dX3_caseOf_7 (xle (xal1 (rv_cat _) (xal1 rfl (xal1 (rv_cat _) xal0))) (by decide)) (xfr g9) (xlo (xsw1 (rv_cat _) xsw0) (by decide) g10) (xKv hq (fun h11 hq e13 => ?_) (fun _ _ q _ => q))
  replace hq := hq e13
  refine x_aload_n 0 dX3_caseOf_10 rfl ?_
  obtain ⟨g14, hq⟩ := hq
  obtain ⟨g15, g16, hq⟩ := hq
  refine x_callV (Yc := YX3_e) (as := []) (st := [rv a3]) q1928 mvX3_e g14 rfl dX3_caseOf_11 (xle (xal1 (rv_cat _) xal0) (by decide)) (xfr g15) (xlo (xsw1 (rv_cat _) xsw0) (by decide) g16) (xKr hq (fun x18 h17 hq e19 => ?_) (fun _ _ q _ => q))
  replace hq := hq e19
  have t20 : tg h11 a3 = 16 := e13.tg t8 (by decide)
  have t21 : tg h17 a3 = 16 := e19.tg t20 (by decide)
  obtain ⟨g22, g23, hq⟩ := hq
  refine x_callV (Yc := YX15_add) (as := [rv x18]) (st := []) q1795 mvX15_add t21 rfl dX3_caseOf_14 (xle (xal1 (rv_cat _) (xal1 (rv_cat _) xal0)) (by decide)) (xfr g22) (xlo xsw0 (by decide) g23) (xKr hq (fun x25 h24 hq e26 => ?_) (fun _ _ q _ => q))
  replace hq := hq e26
  refine x_astore_n (lv' := [(2, rv x25), (0, rv x0), (1, rv x1)]) dX3_caseOf_17 (by decide) (by first | rfl | (simp [rv_cat, Value.category]; done) | (simp [rv_cat, Value.category]; decide)) ?_
  refine x_aload_n 1 dX3_caseOf_18 rfl ?_
  refine x_ldcS (n := 20) 84 srX3_225 dX3_caseOf_19 ?_
  have t27 : tg h17 x0 = 4 := e19.tg g14 (by decide)
  have t28 : tg h24 x0 = 4 := e26.tg t27 (by decide)
  obtain ⟨g29, g30, hq⟩ := hq
  refine x_callV (Yc := YX3_need) (as := [rv (tx G 20)]) (st := []) q1719 mvX3_need t28 rfl dX3_caseOf_21 (xle (xal1 (rv_cat _) (xal1 (rv_cat _) xal0)) (by decide)) (xfr g29) (xlo xsw0 (by decide) g30) (xKr hq (fun x32 h31 hq e33 => ?_) (fun _ _ q _ => q))
  replace hq := hq e33
  refine x_pop dX3_caseOf_24 (rv_cat _) ?_
  refine xP.pick (lv' := [(0, rv x0), (2, rv x25)]) [1, 0] rfl ?_
  exact hq
theorem rX3_caseOf {G : xG} {fr lo : Nat} {x0 : Nat} {x1 : Nat} {h : xH} {Q : Outcome → xH → Prop} (hq : bX3_caseOf G fr lo x0 x1 h Q) : xR G YX3_caseOf fr lo [rv x0, rv x1] h Q := by
  show xP _ _ _ _ _ (lv_args 0 _) _ _ _
  rw [show lv_args 0 [rv x0, rv x1] = [(0, rv x0), (1, rv x1)] from (xla1 (rv_cat _) (xla1 (rv_cat _) xla0))]
  exact uX3_caseOf hq
set_option maxRecDepth 100000 in
theorem dX3_loop_0 : decode cX3_loop 0 = .ok (.aload_n 0, 1) := by decide +kernel
set_option maxRecDepth 100000 in
theorem dX3_loop_1 : decode cX3_loop 1 = .ok (.invokevirtual 80, 3) := by decide +kernel
set_option maxRecDepth 100000 in
theorem dX3_loop_4 : decode cX3_loop 4 = .ok (.astore_n 2, 1) := by decide +kernel
set_option maxRecDepth 100000 in
theorem dX3_loop_5 : decode cX3_loop 5 = .ok (.aload_n 0, 1) := by decide +kernel
set_option maxRecDepth 100000 in
theorem dX3_loop_6 : decode cX3_loop 6 = .ok (.ldc_w 292, 3) := by decide +kernel
set_option maxRecDepth 100000 in
theorem dX3_loop_9 : decode cX3_loop 9 = .ok (.invokevirtual 99, 3) := by decide +kernel
set_option maxRecDepth 100000 in
theorem dX3_loop_12 : decode cX3_loop 12 = .ok (.pop, 1) := by decide +kernel
set_option maxRecDepth 100000 in
theorem dX3_loop_13 : decode cX3_loop 13 = .ok (.aload_n 0, 1) := by decide +kernel
set_option maxRecDepth 100000 in
theorem dX3_loop_14 : decode cX3_loop 14 = .ok (.invokevirtual 261, 3) := by decide +kernel
set_option maxRecDepth 100000 in
theorem dX3_loop_17 : decode cX3_loop 17 = .ok (.astore_n 3, 1) := by decide +kernel
set_option maxRecDepth 100000 in
theorem dX3_loop_18 : decode cX3_loop 18 = .ok (.aload_n 0, 1) := by decide +kernel
set_option maxRecDepth 100000 in
theorem dX3_loop_19 : decode cX3_loop 19 = .ok (.ldc_w 294, 3) := by decide +kernel
set_option maxRecDepth 100000 in
theorem dX3_loop_22 : decode cX3_loop 22 = .ok (.invokevirtual 60, 3) := by decide +kernel
set_option maxRecDepth 100000 in
theorem dX3_loop_25 : decode cX3_loop 25 = .ok (.istore 4, 2) := by decide +kernel
set_option maxRecDepth 100000 in
theorem dX3_loop_27 : decode cX3_loop 27 = .ok (.iload 4, 2) := by decide +kernel
set_option maxRecDepth 100000 in
theorem dX3_loop_29 : decode cX3_loop 29 = .ok (.ifCond .ne 14, 3) := by decide +kernel
set_option maxRecDepth 100000 in
theorem dX3_loop_32 : decode cX3_loop 32 = .ok (.aload_n 0, 1) := by decide +kernel
set_option maxRecDepth 100000 in
theorem dX3_loop_33 : decode cX3_loop 33 = .ok (.ldc_w 296, 3) := by decide +kernel
set_option maxRecDepth 100000 in
theorem dX3_loop_36 : decode cX3_loop 36 = .ok (.invokevirtual 99, 3) := by decide +kernel
set_option maxRecDepth 100000 in
theorem dX3_loop_39 : decode cX3_loop 39 = .ok (.pop, 1) := by decide +kernel
set_option maxRecDepth 100000 in
theorem dX3_loop_40 : decode cX3_loop 40 = .ok (.goto 7, 3) := by decide +kernel
set_option maxRecDepth 100000 in
theorem dX3_loop_43 : decode cX3_loop 43 = .ok (.aload_n 0, 1) := by decide +kernel
set_option maxRecDepth 100000 in
theorem dX3_loop_44 : decode cX3_loop 44 = .ok (.invokevirtual 57, 3) := by decide +kernel
set_option maxRecDepth 100000 in
theorem dX3_loop_47 : decode cX3_loop 47 = .ok (.new 71, 3) := by decide +kernel
set_option maxRecDepth 100000 in
theorem dX3_loop_50 : decode cX3_loop 50 = .ok (.dup, 1) := by decide +kernel
set_option maxRecDepth 100000 in
theorem dX3_loop_51 : decode cX3_loop 51 = .ok (.iload 4, 2) := by decide +kernel
set_option maxRecDepth 100000 in
theorem dX3_loop_53 : decode cX3_loop 53 = .ok (.ifCond .eq 8, 3) := by decide +kernel
set_option maxRecDepth 100000 in
theorem dX3_loop_56 : decode cX3_loop 56 = .ok (.bipush 37, 2) := by decide +kernel
set_option maxRecDepth 100000 in
theorem dX3_loop_58 : decode cX3_loop 58 = .ok (.goto 5, 3) := by decide +kernel
set_option maxRecDepth 100000 in
theorem dX3_loop_61 : decode cX3_loop 61 = .ok (.bipush 36, 2) := by decide +kernel
set_option maxRecDepth 100000 in
theorem dX3_loop_63 : decode cX3_loop 63 = .ok (.aload_n 1, 1) := by decide +kernel
set_option maxRecDepth 100000 in
theorem dX3_loop_64 : decode cX3_loop 64 = .ok (.invokespecial 77, 3) := by decide +kernel
set_option maxRecDepth 100000 in
theorem dX3_loop_67 : decode cX3_loop 67 = .ok (.aload_n 2, 1) := by decide +kernel
set_option maxRecDepth 100000 in
theorem dX3_loop_68 : decode cX3_loop 68 = .ok (.invokevirtual 84, 3) := by decide +kernel
set_option maxRecDepth 100000 in
theorem dX3_loop_71 : decode cX3_loop 71 = .ok (.aload_n 3, 1) := by decide +kernel
set_option maxRecDepth 100000 in
theorem dX3_loop_72 : decode cX3_loop 72 = .ok (.invokevirtual 84, 3) := by decide +kernel
set_option maxRecDepth 100000 in
theorem dX3_loop_75 : decode cX3_loop 75 = .ok (.aload_n 0, 1) := by decide +kernel
set_option maxRecDepth 100000 in
theorem dX3_loop_76 : decode cX3_loop 76 = .ok (.invokevirtual 261, 3) := by decide +kernel
set_option maxRecDepth 100000 in
theorem dX3_loop_79 : decode cX3_loop 79 = .ok (.invokevirtual 84, 3) := by decide +kernel
set_option maxRecDepth 100000 in
theorem dX3_loop_82 : decode cX3_loop 82 = .ok (.astore 5, 2) := by decide +kernel
set_option maxRecDepth 100000 in
theorem dX3_loop_84 : decode cX3_loop 84 = .ok (.aload_n 0, 1) := by decide +kernel
set_option maxRecDepth 100000 in
theorem dX3_loop_85 : decode cX3_loop 85 = .ok (.ldc_w 274, 3) := by decide +kernel
set_option maxRecDepth 100000 in
theorem dX3_loop_88 : decode cX3_loop 88 = .ok (.invokevirtual 99, 3) := by decide +kernel
set_option maxRecDepth 100000 in
theorem dX3_loop_91 : decode cX3_loop 91 = .ok (.pop, 1) := by decide +kernel
set_option maxRecDepth 100000 in
theorem dX3_loop_92 : decode cX3_loop 92 = .ok (.aload 5, 2) := by decide +kernel
set_option maxRecDepth 100000 in
theorem dX3_loop_94 : decode cX3_loop 94 = .ok (.aload_n 0, 1) := by decide +kernel
set_option maxRecDepth 100000 in
theorem dX3_loop_95 : decode cX3_loop 95 = .ok (.invokevirtual 250, 3) := by decide +kernel
set_option maxRecDepth 100000 in
theorem dX3_loop_98 : decode cX3_loop 98 = .ok (.invokevirtual 84, 3) := by decide +kernel
set_option maxRecDepth 100000 in
theorem dX3_loop_101 : decode cX3_loop 101 = .ok (.areturn, 1) := by decide +kernel
set_option maxRecDepth 100000 in
def bX3_loop_63 (G : xG) (fr lo : Nat) (x0 : Nat) (x1 : Nat) (x2 : Nat) (x3 : Nat) (s0 : Int32) (s1 : Nat) (s2 : Nat) (h : xH) (Q : Outcome → xH → Prop) : Prop := tg h s1 = 16 ∧ 1 ≤ fr ∧ 15 ≤ lo ∧ xRv G YX15_init (fr - 1) (lo - 15) [rv s1, .int s0, rv x1] h (fun h4 => xext h h4 → tg h4 s2 = 16 ∧ 1 ≤ fr ∧ 13 ≤ lo ∧ xRr G YX15_add (fr - 1) (lo - 13) [rv s2, rv x2] h4 (fun x11 h10 => xext h4 h10 → tg h10 x11 = 16 ∧ 1 ≤ fr ∧ 13 ≤ lo ∧ xRr G YX15_add (fr - 1) (lo - 13) [rv x11, rv x3] h10 (fun x17 h16 => xext h10 h16 → tg h16 x0 = 4 ∧ 1 ≤ fr ∧ 14 ≤ lo ∧ xRr G YX3_e (fr - 1) (lo - 14) [rv x0] h16 (fun x23 h22 => xext h16 h22 → tg h22 x17 = 16 ∧ 1 ≤ fr ∧ 13 ≤ lo ∧ xRr G YX15_add (fr - 1) (lo - 13) [rv x17, rv x23] h22 (fun x29 h28 => xext h22 h28 → 1 ≤ fr ∧ 13 ≤ lo ∧ xRr G YX3_need (fr - 1) (lo - 13) [rv x0, rv (tx G 6)] h28 (fun x36 h35 => xext h28 h35 → 1 ≤ fr ∧ 14 ≤ lo ∧ xRr G YX3_statement (fr - 1) (lo - 14) [rv x0] h35 (fun x42 h41 => xext h35 h41 → tg h41 x29 = 16 ∧ 1 ≤ fr ∧ 13 ≤ lo ∧ xRr G YX15_add (fr - 1) (lo - 13) [rv x29, rv x42] h41 (fun x48 h47 => xext h41 h47 → Q (.returned (some (rv x48))) h47) (fun r h2 => Q (.threw r) h2)) (fun r h2 => Q (.threw r) h2)) (fun r h2 => Q (.threw r) h2)) (fun r h2 => Q (.threw r) h2)) (fun r h2 => Q (.threw r) h2)) (fun r h2 => Q (.threw r) h2)) (fun r h2 => Q (.threw r) h2)) (fun r h2 => Q (.threw r) h2)
set_option maxRecDepth 100000 in
theorem uX3_loop_63 {G : xG} {fr lo : Nat} {x0 : Nat} {x1 : Nat} {x2 : Nat} {x3 : Nat} {s0 : Int32} {s1 : Nat} {s2 : Nat} {h : xH} {Q : Outcome → xH → Prop} (hq : bX3_loop_63 G fr lo x0 x1 x2 x3 s0 s1 s2 h Q) : xP G YX3_loop fr lo 63 [(0, rv x0), (1, rv x1), (2, rv x2), (3, rv x3)] [.int s0, rv s1, rv s2] h Q := by
  unfold bX3_loop_63 at hq
  refine x_aload_n 1 dX3_loop_63 rfl ?_
  obtain ⟨g1, hq⟩ := hq
  obtain ⟨g2, g3, hq⟩ := hq
  refine x_callI (Yc := YX15_init) (as := [.int s0, rv x1]) (st := [rv s2]) q1749 miX15_init (by rw [g1]; decide) rfl dX3_loop_64 (xle (xal1 (rv_cat _) (xal1 rfl (xal1 (rv_cat _) xal0))) (by decide)) (xfr g2) (xlo (xsw1 (rv_cat _) xsw0) (by decide) g3) (xKv hq (fun h4 hq e6 => ?_) (fun _ _ q _ => q))
  replace hq := hq e6
  refine x_aload_n 2 dX3_loop_67 rfl ?_
  obtain ⟨g7, hq⟩ := hq
  obtain ⟨g8, g9, hq⟩ := hq
  refine x_callV (Yc := YX15_add) (as := [rv x2]) (st := []) q1795 mvX15_add g7 rfl dX3_loop_68 (xle (xal1 (rv_cat _) (xal1 (rv_cat _) xal0)) (by decide)) (xfr g8) (xlo xsw0 (by decide) g9) (xKr hq (fun x11 h10 hq e12 => ?_) (fun _ _ q _ => q))
  replace hq := hq e12
  refine x_aload_n 3 dX3_loop_71 rfl ?_
  obtain ⟨g13, hq⟩ := hq
  obtain ⟨g14, g15, hq⟩ := hq
  refine x_callV (Yc := YX15_add) (as := [rv x3]) (st := []) q1795 mvX15_add g13 rfl dX3_loop_72 (xle (xal1 (rv_cat _) (xal1 (rv_cat _) xal0)) (by decide)) (xfr g14) (xlo xsw0 (by decide) g15) (xKr hq (fun x17 h16 hq e18 => ?_) (fun _ _ q _ => q))
  replace hq := hq e18
  refine x_aload_n 0 dX3_loop_75 rfl ?_
  obtain ⟨g19, hq⟩ := hq
  obtain ⟨g20, g21, hq⟩ := hq
  refine x_callV (Yc := YX3_e) (as := []) (st := [rv x17]) q1928 mvX3_e g19 rfl dX3_loop_76 (xle (xal1 (rv_cat _) xal0) (by decide)) (xfr g20) (xlo (xsw1 (rv_cat _) xsw0) (by decide) g21) (xKr hq (fun x23 h22 hq e24 => ?_) (fun _ _ q _ => q))
  replace hq := hq e24
  obtain ⟨g25, hq⟩ := hq
  obtain ⟨g26, g27, hq⟩ := hq
  refine x_callV (Yc := YX15_add) (as := [rv x23]) (st := []) q1795 mvX15_add g25 rfl dX3_loop_79 (xle (xal1 (rv_cat _) (xal1 (rv_cat _) xal0)) (by decide)) (xfr g26) (xlo xsw0 (by decide) g27) (xKr hq (fun x29 h28 hq e30 => ?_) (fun _ _ q _ => q))
  replace hq := hq e30
  refine x_astore (lv' := [(5, rv x29), (0, rv x0), (1, rv x1), (2, rv x2), (3, rv x3)]) dX3_loop_82 (by decide) rfl ?_
  refine x_aload_n 1 dX3_loop_84 rfl ?_
  refine x_ldcwS (n := 6) 116 srX3_274 dX3_loop_85 ?_
  have t31 : tg h22 x0 = 4 := e24.tg g19 (by decide)
  have t32 : tg h28 x0 = 4 := e30.tg t31 (by decide)
  obtain ⟨g33, g34, hq⟩ := hq
  refine x_callV (Yc := YX3_need) (as := [rv (tx G 6)]) (st := []) q1719 mvX3_need t32 rfl dX3_loop_88 (xle (xal1 (rv_cat _) (xal1 (rv_cat _) xal0)) (by decide)) (xfr g33) (xlo xsw0 (by decide) g34) (xKr hq (fun x36 h35 hq e37 => ?_) (fun _ _ q _ => q))
  replace hq := hq e37
  refine x_pop dX3_loop_91 (rv_cat _) ?_
  refine x_aload 0 dX3_loop_92 rfl ?_
  refine x_aload_n 1 dX3_loop_94 rfl ?_
  have t38 : tg h35 x0 = 4 := e37.tg t32 (by decide)
  obtain ⟨g39, g40, hq⟩ := hq
  refine x_callV (Yc := YX3_statement) (as := []) (st := [rv x29]) q1910 mvX3_statement t38 rfl dX3_loop_95 (xle (xal1 (rv_cat _) xal0) (by decide)) (xfr g39) (xlo (xsw1 (rv_cat _) xsw0) (by decide) g40) (xKr hq (fun x42 h41 hq e43 => ?_) (fun _ _ q _ => q))
  replace hq := hq e43
  obtain ⟨g44, hq⟩ := hq
  obtain ⟨g45, g46, hq⟩ := hq
  refine x_callV (Yc := YX15_add) (as := [rv x42]) (st := []) q1795 mvX15_add g44 rfl dX3_loop_98 (xle (xal1 (rv_cat _) (xal1 (rv_cat _) xal0)) (by decide)) (xfr g45) (xlo xsw0 (by decide) g46) (xKr hq (fun x48 h47 hq e49 => ?_) (fun _ _ q _ => q))
  replace hq := hq e49
  exact x_aret rfl xty_O dX3_loop_101 hq
set_option maxRecDepth 100000 in
def bX3_loop_47 (G : xG) (fr lo : Nat) (x0 : Nat) (x1 : Nat) (x2 : Nat) (x3 : Nat) (x4 : Int32) (h : xH) (Q : Outcome → xH → Prop) : Prop := nx h + 1 ≤ xGN G ∧ us h + 6 ≤ xGU G ∧ (∀ (a3 : Nat) (h4 : xH), a3 = nx h + 1 → h4 = nO h 16 6 → xfresh h a3 → ((x4 = 0 → bX3_loop_63 G fr lo x0 x1 x2 x3 36 a3 a3 h4 Q) ∧ (¬ x4 = 0 → bX3_loop_63 G fr lo x0 x1 x2 x3 37 a3 a3 h4 Q)))
set_option maxRecDepth 100000 in
theorem uX3_loop_47 {G : xG} {fr lo : Nat} {x0 : Nat} {x1 : Nat} {x2 : Nat} {x3 : Nat} {x4 : Int32} {h : xH} {Q : Outcome → xH → Prop} (hq : bX3_loop_47 G fr lo x0 x1 x2 x3 x4 h Q) : xP G YX3_loop fr lo 47 [(0, rv x0), (1, rv x1), (2, rv x2), (3, rv x3), (4, .int x4)] [] h Q := by
  unfold bX3_loop_47 at hq
  obtain ⟨g1, g2, hq⟩ := hq
  obtain ⟨a3, e5⟩ : ∃ y, y = nx h + 1 := ⟨_, rfl⟩
  obtain ⟨h4, e6⟩ : ∃ y, y = nO h 16 6 := ⟨_, rfl⟩
  refine x_new' cdX3_71 dX3_loop_47 g1 g2 e5 e6 (fun f7 => ?_)
  replace hq := hq a3 h4 e5 e6 f7
  have t8 : tg h4 a3 = 16 := by rw [e6, e5]; exact tg_nO
  refine x_dup dX3_loop_50 (rv_cat _) ?_
  refine x_iload 4 dX3_loop_51 rfl ?_
  refine x_if_eq (tgt := 61) dX3_loop_53 (by decide) (fun c9 => ?_) (fun c9 => ?_)
  · replace hq := hq.1 c9
    refine x_bipush (v := 36) dX3_loop_61 (by decide) ?_
    refine xP.pick (lv' := [(0, rv x0), (1, rv x1), (2, rv x2), (3, rv x3)]) [0, 1, 2, 3] rfl ?_
    exact uX3_loop_63 hq
  · replace hq := hq.2 c9
    refine x_bipush (v := 37) dX3_loop_56 (by decide) ?_
    refine x_goto (tgt := 63) dX3_loop_58 (by decide) ?_
    refine xP.pick (lv' := [(0, rv x0), (1, rv x1), (2, rv x2), (3, rv x3)]) [0, 1, 2, 3] rfl ?_
    exact uX3_loop_63 hq
set_option maxRecDepth 100000 in
def bX3_loop (G : xG) (fr lo : Nat) (x0 : Nat) (x1 : Nat) (h : xH) (Q : Outcome → xH → Prop) : Prop := tg h x0 = 4 ∧ 1 ≤ fr ∧ 12 ≤ lo ∧ xRr G YX3_name (fr - 1) (lo - 12) [rv x0] h (fun x5 h4 => xext h h4 → 1 ≤ fr ∧ 13 ≤ lo ∧ xRr G YX3_need (fr - 1) (lo - 13) [rv x0, rv (tx G 51)] h4 (fun x11 h10 => xext h4 h10 → 1 ≤ fr ∧ 13 ≤ lo ∧ xRr G YX3_e (fr - 1) (lo - 13) [rv x0] h10 (fun x17 h16 => xext h10 h16 → 1 ≤ fr ∧ 13 ≤ lo ∧ xRi G YX3_is (fr - 1) (lo - 13) [rv x0, rv (tx G 7)] h16 (fun x23 h22 => xext h16 h22 → ((¬ x23 = 0 → 1 ≤ fr ∧ 12 ≤ lo ∧ xRv G YX3_step (fr - 1) (lo - 12) [rv x0] h22 (fun h29 => xext h22 h29 → bX3_loop_47 G fr lo x0 x1 x5 x17 x23 h29 Q) (fun r h2 => Q (.threw r) h2)) ∧ (x23 = 0 → 1 ≤ fr ∧ 13 ≤ lo ∧ xRr G YX3_need (fr - 1) (lo - 13) [rv x0, rv (tx G 29)] h22 (fun x36 h35 => xext h22 h35 → bX3_loop_47 G fr lo x0 x1 x5 x17 x23 h35 Q) (fun r h2 => Q (.threw r) h2)))) (fun r h2 => Q (.threw r) h2)) (fun r h2 => Q (.threw r) h2)) (fun r h2 => Q (.threw r) h2)) (fun r h2 => Q (.threw r) h2)
set_option maxRecDepth 100000 in
theorem uX3_loop {G : xG} {fr lo : Nat} {x0 : Nat} {x1 : Nat} {h : xH} {Q : Outcome → xH → Prop} (hq : bX3_loop G fr lo x0 x1 h Q) : xP G YX3_loop fr lo 0 [(0, rv x0), (1, rv x1)] [] h Q := by
  unfold bX3_loop at hq
  refine x_aload_n 0 dX3_loop_0 rfl ?_
  obtain ⟨g1, hq⟩ := hq
  obtain ⟨g2, g3, hq⟩ := hq
  refine x_callV (Yc := YX3_name) (as := []) (st := []) q1791 mvX3_name g1 rfl dX3_loop_1 (xle (xal1 (rv_cat _) xal0) (by decide)) (xfr g2) (xlo xsw0 (by decide) g3) (xKr hq (fun x5 h4 hq e6 => ?_) (fun _ _ q _ => q))
  replace hq := hq e6
  refine x_astore_n (lv' := [(2, rv x5), (0, rv x0), (1, rv x1)]) dX3_loop_4 (by decide) (by first | rfl | (simp [rv_cat, Value.category]; done) | (simp [rv_cat, Value.category]; decide)) ?_
  refine x_aload_n 1 dX3_loop_5 rfl ?_
  refine x_ldcwS (n := 51) 97 srX3_292 dX3_loop_6 ?_
  have t7 : tg h4 x0 = 4 := e6.tg g1 (by decide)
  obtain ⟨g8, g9, hq⟩ := hq
  refine x_callV (Yc := YX3_need) (as := [rv (tx G 51)]) (st := []) q1719 mvX3_need t7 rfl dX3_loop_9 (xle (xal1 (rv_cat _) (xal1 (rv_cat _) xal0)) (by decide)) (xfr g8) (xlo xsw0 (by decide) g9) (xKr hq (fun x11 h10 hq e12 => ?_) (fun _ _ q _ => q))
  replace hq := hq e12
  refine x_pop dX3_loop_12 (rv_cat _) ?_
  refine x_aload_n 1 dX3_loop_13 rfl ?_
  have t13 : tg h10 x0 = 4 := e12.tg t7 (by decide)
  obtain ⟨g14, g15, hq⟩ := hq
  refine x_callV (Yc := YX3_e) (as := []) (st := []) q1928 mvX3_e t13 rfl dX3_loop_14 (xle (xal1 (rv_cat _) xal0) (by decide)) (xfr g14) (xlo xsw0 (by decide) g15) (xKr hq (fun x17 h16 hq e18 => ?_) (fun _ _ q _ => q))
  replace hq := hq e18
  refine x_astore_n (lv' := [(3, rv x17), (2, rv x5), (0, rv x0), (1, rv x1)]) dX3_loop_17 (by decide) (by first | rfl | (simp [rv_cat, Value.category]; done) | (simp [rv_cat, Value.category]; decide)) ?_
  refine x_aload_n 2 dX3_loop_18 rfl ?_
  refine x_ldcwS (n := 7) 120 srX3_294 dX3_loop_19 ?_
  have t19 : tg h16 x0 = 4 := e18.tg t13 (by decide)
  obtain ⟨g20, g21, hq⟩ := hq
  refine x_callV (Yc := YX3_is) (as := [rv (tx G 7)]) (st := []) q1723 mvX3_is t19 rfl dX3_loop_22 (xle (xal1 (rv_cat _) (xal1 (rv_cat _) xal0)) (by decide)) (xfr g20) (xlo xsw0 (by decide) g21) (xKi hq (fun x23 h22 hq e24 => ?_) (fun _ _ q _ => q))
  replace hq := hq e24
  refine x_istore (lv' := [(4, .int x23), (3, rv x17), (2, rv x5), (0, rv x0), (1, rv x1)]) dX3_loop_25 (by decide) (by first | rfl | (simp [rv_cat, Value.category]; done) | (simp [rv_cat, Value.category]; decide)) ?_
  refine x_iload 0 dX3_loop_27 rfl ?_
  refine x_if_ne (tgt := 43) dX3_loop_29 (by decide) (fun c25 => ?_) (fun c25 => ?_)
  · replace hq := hq.1 c25
    refine x_aload_n 3 dX3_loop_43 rfl ?_
    have t26 : tg h22 x0 = 4 := e24.tg t19 (by decide)
    obtain ⟨g27, g28, hq⟩ := hq
    refine x_callV (Yc := YX3_step) (as := []) (st := []) q1568 mvX3_step t26 rfl dX3_loop_44 (xle (xal1 (rv_cat _) xal0) (by decide)) (xfr g27) (xlo xsw0 (by decide) g28) (xKv hq (fun h29 hq e31 => ?_) (fun _ _ q _ => q))
    replace hq := hq e31
    refine xP.pick (lv' := [(0, rv x0), (1, rv x1), (2, rv x5), (3, rv x17), (4, .int x23)]) [3, 4, 2, 1, 0] rfl ?_
    exact uX3_loop_47 hq
  · replace hq := hq.2 c25
    refine x_aload_n 3 dX3_loop_32 rfl ?_
    refine x_ldcwS (n := 29) 121 srX3_296 dX3_loop_33 ?_
    have t32 : tg h22 x0 = 4 := e24.tg t19 (by decide)
    obtain ⟨g33, g34, hq⟩ := hq
    refine x_callV (Yc := YX3_need) (as := [rv (tx G 29)]) (st := []) q1719 mvX3_need t32 rfl dX3_loop_36 (xle (xal1 (rv_cat _) (xal1 (rv_cat _) xal0)) (by decide)) (xfr g33) (xlo xsw0 (by decide) g34) (xKr hq (fun x36 h35 hq e37 => ?_) (fun _ _ q _ => q))
    replace hq := hq e37
    refine x_pop dX3_loop_39 (rv_cat _) ?_
    refine x_goto (tgt := 47) dX3_loop_40 (by decide) ?_
    refine xP.pick (lv' := [(0, rv x0), (1, rv x1), (2, rv x5), (3, rv x17), (4, .int x23)]) [3, 4, 2, 1, 0] rfl ?_
    exact uX3_loop_47 hq
theorem rX3_loop {G : xG} {fr lo : Nat} {x0 : Nat} {x1 : Nat} {h : xH} {Q : Outcome → xH → Prop} (hq : bX3_loop G fr lo x0 x1 h Q) : xR G YX3_loop fr lo [rv x0, rv x1] h Q := by
  show xP _ _ _ _ _ (lv_args 0 _) _ _ _
  rw [show lv_args 0 [rv x0, rv x1] = [(0, rv x0), (1, rv x1)] from (xla1 (rv_cat _) (xla1 (rv_cat _) xla0))]
  exact uX3_loop hq
set_option maxRecDepth 100000 in
theorem dX3_with_0 : decode cX3_with 0 = .ok (.new 71, 3) := by decide +kernel
set_option maxRecDepth 100000 in
theorem dX3_with_3 : decode cX3_with 3 = .ok (.dup, 1) := by decide +kernel
set_option maxRecDepth 100000 in
theorem dX3_with_4 : decode cX3_with 4 = .ok (.iload_n 1, 1) := by decide +kernel
set_option maxRecDepth 100000 in
theorem dX3_with_5 : decode cX3_with 5 = .ok (.aload_n 2, 1) := by decide +kernel
set_option maxRecDepth 100000 in
theorem dX3_with_6 : decode cX3_with 6 = .ok (.invokespecial 77, 3) := by decide +kernel
set_option maxRecDepth 100000 in
theorem dX3_with_9 : decode cX3_with 9 = .ok (.aload_n 0, 1) := by decide +kernel
set_option maxRecDepth 100000 in
theorem dX3_with_10 : decode cX3_with 10 = .ok (.aload_n 0, 1) := by decide +kernel
set_option maxRecDepth 100000 in
theorem dX3_with_11 : decode cX3_with 11 = .ok (.getstatic 43, 3) := by decide +kernel
set_option maxRecDepth 100000 in
theorem dX3_with_14 : decode cX3_with 14 = .ok (.invokevirtual 73, 3) := by decide +kernel
set_option maxRecDepth 100000 in
theorem dX3_with_17 : decode cX3_with 17 = .ok (.invokevirtual 298, 3) := by decide +kernel
set_option maxRecDepth 100000 in
theorem dX3_with_20 : decode cX3_with 20 = .ok (.invokevirtual 84, 3) := by decide +kernel
set_option maxRecDepth 100000 in
theorem dX3_with_23 : decode cX3_with 23 = .ok (.astore_n 3, 1) := by decide +kernel
set_option maxRecDepth 100000 in
theorem dX3_with_24 : decode cX3_with 24 = .ok (.aload_n 0, 1) := by decide +kernel
set_option maxRecDepth 100000 in
theorem dX3_with_25 : decode cX3_with 25 = .ok (.ldc 88, 2) := by decide +kernel
set_option maxRecDepth 100000 in
theorem dX3_with_27 : decode cX3_with 27 = .ok (.invokevirtual 90, 3) := by decide +kernel
set_option maxRecDepth 100000 in
theorem dX3_with_30 : decode cX3_with 30 = .ok (.ifCond .eq 31, 3) := by decide +kernel
set_option maxRecDepth 100000 in
theorem dX3_with_33 : decode cX3_with 33 = .ok (.aload_n 0, 1) := by decide +kernel
set_option maxRecDepth 100000 in
theorem dX3_with_34 : decode cX3_with 34 = .ok (.invokevirtual 123, 3) := by decide +kernel
set_option maxRecDepth 100000 in
theorem dX3_with_37 : decode cX3_with 37 = .ok (.aload_n 3, 1) := by decide +kernel
set_option maxRecDepth 100000 in
theorem dX3_with_38 : decode cX3_with 38 = .ok (.aload_n 0, 1) := by decide +kernel
set_option maxRecDepth 100000 in
theorem dX3_with_39 : decode cX3_with 39 = .ok (.bipush 39, 2) := by decide +kernel
set_option maxRecDepth 100000 in
theorem dX3_with_41 : decode cX3_with 41 = .ok (.aload_n 2, 1) := by decide +kernel
set_option maxRecDepth 100000 in
theorem dX3_with_42 : decode cX3_with 42 = .ok (.invokevirtual 287, 3) := by decide +kernel
set_option maxRecDepth 100000 in
theorem dX3_with_45 : decode cX3_with 45 = .ok (.invokevirtual 84, 3) := by decide +kernel
set_option maxRecDepth 100000 in
theorem dX3_with_48 : decode cX3_with 48 = .ok (.pop, 1) := by decide +kernel
set_option maxRecDepth 100000 in
theorem dX3_with_49 : decode cX3_with 49 = .ok (.aload_n 0, 1) := by decide +kernel
set_option maxRecDepth 100000 in
theorem dX3_with_50 : decode cX3_with 50 = .ok (.dup, 1) := by decide +kernel
set_option maxRecDepth 100000 in
theorem dX3_with_51 : decode cX3_with 51 = .ok (.getfield 68, 3) := by decide +kernel
set_option maxRecDepth 100000 in
theorem dX3_with_54 : decode cX3_with 54 = .ok (.iconst 1, 1) := by decide +kernel
set_option maxRecDepth 100000 in
theorem dX3_with_55 : decode cX3_with 55 = .ok (.isub, 1) := by decide +kernel
set_option maxRecDepth 100000 in
theorem dX3_with_56 : decode cX3_with 56 = .ok (.putfield 68, 3) := by decide +kernel
set_option maxRecDepth 100000 in
theorem dX3_with_59 : decode cX3_with 59 = .ok (.aload_n 3, 1) := by decide +kernel
set_option maxRecDepth 100000 in
theorem dX3_with_60 : decode cX3_with 60 = .ok (.areturn, 1) := by decide +kernel
set_option maxRecDepth 100000 in
theorem dX3_with_61 : decode cX3_with 61 = .ok (.aload_n 0, 1) := by decide +kernel
set_option maxRecDepth 100000 in
theorem dX3_with_62 : decode cX3_with 62 = .ok (.ldc_w 274, 3) := by decide +kernel
set_option maxRecDepth 100000 in
theorem dX3_with_65 : decode cX3_with 65 = .ok (.invokevirtual 99, 3) := by decide +kernel
set_option maxRecDepth 100000 in
theorem dX3_with_68 : decode cX3_with 68 = .ok (.pop, 1) := by decide +kernel
set_option maxRecDepth 100000 in
theorem dX3_with_69 : decode cX3_with 69 = .ok (.aload_n 3, 1) := by decide +kernel
set_option maxRecDepth 100000 in
theorem dX3_with_70 : decode cX3_with 70 = .ok (.aload_n 0, 1) := by decide +kernel
set_option maxRecDepth 100000 in
theorem dX3_with_71 : decode cX3_with 71 = .ok (.invokevirtual 250, 3) := by decide +kernel
set_option maxRecDepth 100000 in
theorem dX3_with_74 : decode cX3_with 74 = .ok (.invokevirtual 84, 3) := by decide +kernel
set_option maxRecDepth 100000 in
theorem dX3_with_77 : decode cX3_with 77 = .ok (.areturn, 1) := by decide +kernel
set_option maxRecDepth 100000 in
def bX3_with (G : xG) (fr lo : Nat) (x0 : Nat) (x1 : Int32) (x2 : Nat) (h : xH) (Q : Outcome → xH → Prop) : Prop := nx h + 1 ≤ xGN G ∧ us h + 6 ≤ xGU G ∧ (∀ (a3 : Nat) (h4 : xH), a3 = nx h + 1 → h4 = nO h 16 6 → xfresh h a3 → 1 ≤ fr ∧ 15 ≤ lo ∧ xRv G YX15_init (fr - 1) (lo - 15) [rv a3, .int x1, rv x2] h4 (fun h11 => xext h4 h11 → tg h11 x0 = 4 ∧ 1 ≤ fr ∧ 15 ≤ lo ∧ xRr G YX3_needSort (fr - 1) (lo - 15) [rv x0, rv (xGS G 1)] h11 (fun x18 h17 => xext h11 h17 → 1 ≤ fr ∧ 17 ≤ lo ∧ xRr G YX3_variable (fr - 1) (lo - 17) [rv x0, rv x18] h17 (fun x24 h23 => xext h17 h23 → 1 ≤ fr ∧ 13 ≤ lo ∧ xRr G YX15_add (fr - 1) (lo - 13) [rv a3, rv x24] h23 (fun x32 h31 => xext h23 h31 → 1 ≤ fr ∧ 13 ≤ lo ∧ xRi G YX3_has (fr - 1) (lo - 13) [rv x0, rv (tx G 63)] h31 (fun x39 h38 => xext h31 h38 → ((x39 = 0 → 1 ≤ fr ∧ 13 ≤ lo ∧ xRr G YX3_need (fr - 1) (lo - 13) [rv x0, rv (tx G 6)] h38 (fun x46 h45 => xext h38 h45 → 1 ≤ fr ∧ 14 ≤ lo ∧ xRr G YX3_statement (fr - 1) (lo - 14) [rv x0] h45 (fun x52 h51 => xext h45 h51 → tg h51 x32 = 16 ∧ 1 ≤ fr ∧ 13 ≤ lo ∧ xRr G YX15_add (fr - 1) (lo - 13) [rv x32, rv x52] h51 (fun x58 h57 => xext h51 h57 → Q (.returned (some (rv x58))) h57) (fun r h2 => Q (.threw r) h2)) (fun r h2 => Q (.threw r) h2)) (fun r h2 => Q (.threw r) h2)) ∧ (¬ x39 = 0 → 1 ≤ fr ∧ 12 ≤ lo ∧ xRv G YX3_deeper (fr - 1) (lo - 12) [rv x0] h38 (fun h63 => xext h38 h63 → 1 ≤ fr ∧ 16 ≤ lo ∧ xRr G YX3_with (fr - 1) (lo - 16) [rv x0, .int 39, rv x2] h63 (fun x70 h69 => xext h63 h69 → tg h69 x32 = 16 ∧ 1 ≤ fr ∧ 13 ≤ lo ∧ xRr G YX15_add (fr - 1) (lo - 13) [rv x32, rv x70] h69 (fun x76 h75 => xext h69 h75 → (∀ h80 : xH, h80 = sI h75 x0 772 ((fI h75 x0 772) - 1) → Q (.returned (some (rv x32))) h80)) (fun r h2 => Q (.threw r) h2)) (fun r h2 => Q (.threw r) h2)) (fun r h2 => Q (.threw r) h2)))) (fun r h2 => Q (.threw r) h2)) (fun r h2 => Q (.threw r) h2)) (fun r h2 => Q (.threw r) h2)) (fun r h2 => Q (.threw r) h2)) (fun r h2 => Q (.threw r) h2))
set_option maxRecDepth 100000 in
theorem uX3_with {G : xG} {fr lo : Nat} {x0 : Nat} {x1 : Int32} {x2 : Nat} {h : xH} {Q : Outcome → xH → Prop} (hq : bX3_with G fr lo x0 x1 x2 h Q) : xP G YX3_with fr lo 0 [(0, rv x0), (1, .int x1), (2, rv x2)] [] h Q := by
  unfold bX3_with at hq
  obtain ⟨g1, g2, hq⟩ := hq
  obtain ⟨a3, e5⟩ : ∃ y, y = nx h + 1 := ⟨_, rfl⟩
  obtain ⟨h4, e6⟩ : ∃ y, y = nO h 16 6 := ⟨_, rfl⟩
  refine x_new' cdX3_71 dX3_with_0 g1 g2 e5 e6 (fun f7 => ?_)
  replace hq := hq a3 h4 e5 e6 f7
  have t8 : tg h4 a3 = 16 := by rw [e6, e5]; exact tg_nO
  refine x_dup dX3_with_3 (rv_cat _) ?_
  refine x_iload_n 1 dX3_with_4 rfl ?_
  refine x_aload_n 2 dX3_with_5 rfl ?_
  obtain ⟨g9, g10, hq⟩ := hq
  refine x_callI (Yc := YX15_init) (as := [.int x1, rv x2]) (st := [rv a3]) q1749 miX15_init (by rw [t8]; decide) rfl dX3_with_6 (xle (xal1 (rv_cat _) (xal1 rfl (xal1 (rv_cat _) xal0))) (by decide)) (xfr g9) (xlo (xsw1 (rv_cat _) xsw0) (by decide) g10) (xKv hq (fun h11 hq e13 => ?_) (fun _ _ q _ => q))
  replace hq := hq e13
  refine x_aload_n 0 dX3_with_9 rfl ?_
  refine x_aload_n 0 dX3_with_10 rfl ?_
  refine x_gets (v := rv (xGS G 1)) 1 rfl q1744 (by simp [xsv]) dX3_with_11 ?_
  obtain ⟨g14, hq⟩ := hq
  obtain ⟨g15, g16, hq⟩ := hq
  refine x_callV (Yc := YX3_needSort) (as := [rv (xGS G 1)]) (st := [rv x0, rv a3]) q1745 mvX3_needSort g14 rfl dX3_with_14 (xle (xal1 (rv_cat _) (xal1 (rv_cat _) xal0)) (by decide)) (xfr g15) (xlo (xsw1 (rv_cat _) (xsw1 (rv_cat _) xsw0)) (by decide) g16) (xKr hq (fun x18 h17 hq e19 => ?_) (fun _ _ q _ => q))
  replace hq := hq e19
  have t20 : tg h17 x0 = 4 := e19.tg g14 (by decide)
  obtain ⟨g21, g22, hq⟩ := hq
  refine x_callV (Yc := YX3_variable) (as := [rv x18]) (st := [rv a3]) q1924 mvX3_variable t20 rfl dX3_with_17 (xle (xal1 (rv_cat _) (xal1 (rv_cat _) xal0)) (by decide)) (xfr g21) (xlo (xsw1 (rv_cat _) xsw0) (by decide) g22) (xKr hq (fun x24 h23 hq e25 => ?_) (fun _ _ q _ => q))
  replace hq := hq e25
  have t26 : tg h11 a3 = 16 := e13.tg t8 (by decide)
  have t27 : tg h17 a3 = 16 := e19.tg t26 (by decide)
  have t28 : tg h23 a3 = 16 := e25.tg t27 (by decide)
  obtain ⟨g29, g30, hq⟩ := hq
  refine x_callV (Yc := YX15_add) (as := [rv x24]) (st := []) q1795 mvX15_add t28 rfl dX3_with_20 (xle (xal1 (rv_cat _) (xal1 (rv_cat _) xal0)) (by decide)) (xfr g29) (xlo xsw0 (by decide) g30) (xKr hq (fun x32 h31 hq e33 => ?_) (fun _ _ q _ => q))
  replace hq := hq e33
  refine x_astore_n (lv' := [(3, rv x32), (0, rv x0), (1, .int x1), (2, rv x2)]) dX3_with_23 (by decide) (by first | rfl | (simp [rv_cat, Value.category]; done) | (simp [rv_cat, Value.category]; decide)) ?_
  refine x_aload_n 1 dX3_with_24 rfl ?_
  refine x_ldcS (n := 63) 69 srX3_88 dX3_with_25 ?_
  have t34 : tg h23 x0 = 4 := e25.tg t20 (by decide)
  have t35 : tg h31 x0 = 4 := e33.tg t34 (by decide)
  obtain ⟨g36, g37, hq⟩ := hq
  refine x_callV (Yc := YX3_has) (as := [rv (tx G 63)]) (st := []) q1783 mvX3_has t35 rfl dX3_with_27 (xle (xal1 (rv_cat _) (xal1 (rv_cat _) xal0)) (by decide)) (xfr g36) (xlo xsw0 (by decide) g37) (xKi hq (fun x39 h38 hq e40 => ?_) (fun _ _ q _ => q))
  replace hq := hq e40
  refine x_if_eq (tgt := 61) dX3_with_30 (by decide) (fun c41 => ?_) (fun c41 => ?_)
  · replace hq := hq.1 c41
    refine x_aload_n 1 dX3_with_61 rfl ?_
    refine x_ldcwS (n := 6) 116 srX3_274 dX3_with_62 ?_
    have t42 : tg h38 x0 = 4 := e40.tg t35 (by decide)
    obtain ⟨g43, g44, hq⟩ := hq
    refine x_callV (Yc := YX3_need) (as := [rv (tx G 6)]) (st := []) q1719 mvX3_need t42 rfl dX3_with_65 (xle (xal1 (rv_cat _) (xal1 (rv_cat _) xal0)) (by decide)) (xfr g43) (xlo xsw0 (by decide) g44) (xKr hq (fun x46 h45 hq e47 => ?_) (fun _ _ q _ => q))
    replace hq := hq e47
    refine x_pop dX3_with_68 (rv_cat _) ?_
    refine x_aload_n 0 dX3_with_69 rfl ?_
    refine x_aload_n 1 dX3_with_70 rfl ?_
    have t48 : tg h45 x0 = 4 := e47.tg t42 (by decide)
    obtain ⟨g49, g50, hq⟩ := hq
    refine x_callV (Yc := YX3_statement) (as := []) (st := [rv x32]) q1910 mvX3_statement t48 rfl dX3_with_71 (xle (xal1 (rv_cat _) xal0) (by decide)) (xfr g49) (xlo (xsw1 (rv_cat _) xsw0) (by decide) g50) (xKr hq (fun x52 h51 hq e53 => ?_) (fun _ _ q _ => q))
    replace hq := hq e53
    obtain ⟨g54, hq⟩ := hq
    obtain ⟨g55, g56, hq⟩ := hq
    refine x_callV (Yc := YX15_add) (as := [rv x52]) (st := []) q1795 mvX15_add g54 rfl dX3_with_74 (xle (xal1 (rv_cat _) (xal1 (rv_cat _) xal0)) (by decide)) (xfr g55) (xlo xsw0 (by decide) g56) (xKr hq (fun x58 h57 hq e59 => ?_) (fun _ _ q _ => q))
    replace hq := hq e59
    exact x_aret rfl xty_O dX3_with_77 hq
  · replace hq := hq.2 c41
    refine x_aload_n 1 dX3_with_33 rfl ?_
    have t60 : tg h38 x0 = 4 := e40.tg t35 (by decide)
    obtain ⟨g61, g62, hq⟩ := hq
    refine x_callV (Yc := YX3_deeper) (as := []) (st := []) q1806 mvX3_deeper t60 rfl dX3_with_34 (xle (xal1 (rv_cat _) xal0) (by decide)) (xfr g61) (xlo xsw0 (by decide) g62) (xKv hq (fun h63 hq e65 => ?_) (fun _ _ q _ => q))
    replace hq := hq e65
    refine x_aload_n 0 dX3_with_37 rfl ?_
    refine x_aload_n 1 dX3_with_38 rfl ?_
    refine x_bipush (v := 39) dX3_with_39 (by decide) ?_
    refine x_aload_n 3 dX3_with_41 rfl ?_
    have t66 : tg h63 x0 = 4 := e65.tg t60 (by decide)
    obtain ⟨g67, g68, hq⟩ := hq
    refine x_callV (Yc := YX3_with) (as := [.int 39, rv x2]) (st := [rv x32]) q1997 mvX3_with t66 rfl dX3_with_42 (xle (xal1 (rv_cat _) (xal1 rfl (xal1 (rv_cat _) xal0))) (by decide)) (xfr g67) (xlo (xsw1 (rv_cat _) xsw0) (by decide) g68) (xKr hq (fun x70 h69 hq e71 => ?_) (fun _ _ q _ => q))
    replace hq := hq e71
    obtain ⟨g72, hq⟩ := hq
    obtain ⟨g73, g74, hq⟩ := hq
    refine x_callV (Yc := YX15_add) (as := [rv x70]) (st := []) q1795 mvX15_add g72 rfl dX3_with_45 (xle (xal1 (rv_cat _) (xal1 (rv_cat _) xal0)) (by decide)) (xfr g73) (xlo xsw0 (by decide) g74) (xKr hq (fun x76 h75 hq e77 => ?_) (fun _ _ q _ => q))
    replace hq := hq e77
    refine x_pop dX3_with_48 (rv_cat _) ?_
    refine x_aload_n 1 dX3_with_49 rfl ?_
    refine x_dup dX3_with_50 (rv_cat _) ?_
    have t78 : tg h69 x0 = 4 := e71.tg t66 (by decide)
    have t79 : tg h75 x0 = 4 := e77.tg t78 (by decide)
    refine x_get (v := .int (fI h75 x0 772)) fdX3_68 dX3_with_51 t79 rfl ?_
    refine x_iconst (v := 1) dX3_with_54 (by decide) ?_
    refine x_isub dX3_with_55 ?_
    obtain ⟨h80, e81⟩ : ∃ y, y = sI h75 x0 772 ((fI h75 x0 772) - 1) := ⟨_, rfl⟩
    replace hq := hq h80 e81
    refine x_putI fdX3_68 xty_I1 dX3_with_56 t79 (Or.inl (by rw [t79]; rfl)) xnI rfl e81 ?_
    refine x_aload_n 0 dX3_with_59 rfl ?_
    exact x_aret rfl xty_O dX3_with_60 hq
theorem rX3_with {G : xG} {fr lo : Nat} {x0 : Nat} {x1 : Int32} {x2 : Nat} {h : xH} {Q : Outcome → xH → Prop} (hq : bX3_with G fr lo x0 x1 x2 h Q) : xR G YX3_with fr lo [rv x0, .int x1, rv x2] h Q := by
  show xP _ _ _ _ _ (lv_args 0 _) _ _ _
  rw [show lv_args 0 [rv x0, .int x1, rv x2] = [(0, rv x0), (1, .int x1), (2, rv x2)] from (xla1 (rv_cat _) (xla1 rfl (xla1 (rv_cat _) xla0)))]
  exact uX3_with hq
