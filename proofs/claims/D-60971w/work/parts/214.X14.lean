/-! PascalHouse$Symbol, walked (1) -/
set_option maxRecDepth 100000 in
theorem dX14_init_0 : decode cX14_init 0 = .ok (.aload_n 0, 1) := by decide +kernel
set_option maxRecDepth 100000 in
theorem dX14_init_1 : decode cX14_init 1 = .ok (.invokespecial 1, 3) := by decide +kernel
set_option maxRecDepth 100000 in
theorem dX14_init_4 : decode cX14_init 4 = .ok (.aload_n 0, 1) := by decide +kernel
set_option maxRecDepth 100000 in
theorem dX14_init_5 : decode cX14_init 5 = .ok (.aload_n 1, 1) := by decide +kernel
set_option maxRecDepth 100000 in
theorem dX14_init_6 : decode cX14_init 6 = .ok (.putfield 7, 3) := by decide +kernel
set_option maxRecDepth 100000 in
theorem dX14_init_9 : decode cX14_init 9 = .ok (.aload_n 0, 1) := by decide +kernel
set_option maxRecDepth 100000 in
theorem dX14_init_10 : decode cX14_init 10 = .ok (.aload_n 2, 1) := by decide +kernel
set_option maxRecDepth 100000 in
theorem dX14_init_11 : decode cX14_init 11 = .ok (.putfield 13, 3) := by decide +kernel
set_option maxRecDepth 100000 in
theorem dX14_init_14 : decode cX14_init 14 = .ok (.aload_n 0, 1) := by decide +kernel
set_option maxRecDepth 100000 in
theorem dX14_init_15 : decode cX14_init 15 = .ok (.iload_n 3, 1) := by decide +kernel
set_option maxRecDepth 100000 in
theorem dX14_init_16 : decode cX14_init 16 = .ok (.putfield 17, 3) := by decide +kernel
set_option maxRecDepth 100000 in
theorem dX14_init_19 : decode cX14_init 19 = .ok (.aload_n 0, 1) := by decide +kernel
set_option maxRecDepth 100000 in
theorem dX14_init_20 : decode cX14_init 20 = .ok (.iload 4, 2) := by decide +kernel
set_option maxRecDepth 100000 in
theorem dX14_init_22 : decode cX14_init 22 = .ok (.putfield 21, 3) := by decide +kernel
set_option maxRecDepth 100000 in
theorem dX14_init_25 : decode cX14_init 25 = .ok (.aload_n 0, 1) := by decide +kernel
set_option maxRecDepth 100000 in
theorem dX14_init_26 : decode cX14_init 26 = .ok (.dload 5, 2) := by decide +kernel
set_option maxRecDepth 100000 in
theorem dX14_init_28 : decode cX14_init 28 = .ok (.putfield 24, 3) := by decide +kernel
set_option maxRecDepth 100000 in
theorem dX14_init_31 : decode cX14_init 31 = .ok (.return_, 1) := by decide +kernel
set_option maxRecDepth 100000 in
def bX14_init (G : xG) (fr lo : Nat) (x0 : Nat) (x1 : Nat) (x2 : Nat) (x3 : Int32) (x4 : Int32) (x5 : UInt64) (h : xH) (Q : Outcome → xH → Prop) : Prop := tg h x0 = 15 ∧ 1 ≤ fr ∧ 12 ≤ lo ∧ (∀ h4 : xH, h4 = sR h x0 3584 x1 → (∀ h7 : xH, h7 = sR h4 x0 3585 x2 → (∀ h10 : xH, h10 = sI h7 x0 3586 x3 → (∀ h13 : xH, h13 = sI h10 x0 3587 x4 → (∀ h16 : xH, h16 = sD h13 x0 3588 x5 → Q (.returned none) h16)))))
set_option maxRecDepth 100000 in
theorem uX14_init {G : xG} {fr lo : Nat} {x0 : Nat} {x1 : Nat} {x2 : Nat} {x3 : Int32} {x4 : Int32} {x5 : UInt64} {h : xH} {Q : Outcome → xH → Prop} (hq : bX14_init G fr lo x0 x1 x2 x3 x4 x5 h Q) : xP G YX14_init fr lo 0 [(0, rv x0), (1, rv x1), (2, rv x2), (3, .int x3), (4, .int x4), (5, .double x5)] [] h Q := by
  unfold bX14_init at hq
  refine x_aload_n 0 dX14_init_0 rfl ?_
  obtain ⟨g1, hq⟩ := hq
  obtain ⟨g2, g3, hq⟩ := hq
  refine x_objInit (by rw [g1]; decide) q1601 q438 q439 dX14_init_1 g2 (by simp only [List.map_cons, List.map_nil, List.sum_cons, List.sum_nil, rv_cat, Value.category]; omega) ?_
  refine x_aload_n 0 dX14_init_4 rfl ?_
  refine x_aload_n 1 dX14_init_5 rfl ?_
  obtain ⟨h4, e5⟩ : ∃ y, y = sR h x0 3584 x1 := ⟨_, rfl⟩
  replace hq := hq h4 e5
  refine x_putFR fdX14_7 owX14_init_0 xty_O dX14_init_6 g1 (Or.inl (by rw [g1]; rfl)) rfl e5 ?_
  refine x_aload_n 0 dX14_init_9 rfl ?_
  refine x_aload_n 2 dX14_init_10 rfl ?_
  have t6 : tg h4 x0 = 15 := by rw [e5]; exact g1
  obtain ⟨h7, e8⟩ : ∃ y, y = sR h4 x0 3585 x2 := ⟨_, rfl⟩
  replace hq := hq h7 e8
  refine x_putFR fdX14_13 owX14_init_1 xty_O dX14_init_11 t6 (Or.inl (by rw [t6]; rfl)) rfl e8 ?_
  refine x_aload_n 0 dX14_init_14 rfl ?_
  refine x_iload_n 3 dX14_init_15 rfl ?_
  have t9 : tg h7 x0 = 15 := by rw [e8]; exact t6
  obtain ⟨h10, e11⟩ : ∃ y, y = sI h7 x0 3586 x3 := ⟨_, rfl⟩
  replace hq := hq h10 e11
  refine x_putFI fdX14_17 owX14_init_2 xty_I1 dX14_init_16 t9 (Or.inl (by rw [t9]; rfl)) xnI rfl e11 ?_
  refine x_aload_n 0 dX14_init_19 rfl ?_
  refine x_iload 4 dX14_init_20 rfl ?_
  have t12 : tg h10 x0 = 15 := by rw [e11]; exact t9
  obtain ⟨h13, e14⟩ : ∃ y, y = sI h10 x0 3587 x4 := ⟨_, rfl⟩
  replace hq := hq h13 e14
  refine x_putFI fdX14_21 owX14_init_3 xty_I1 dX14_init_22 t12 (Or.inl (by rw [t12]; rfl)) xnI rfl e14 ?_
  refine x_aload_n 0 dX14_init_25 rfl ?_
  refine x_dload 5 dX14_init_26 rfl ?_
  have t15 : tg h13 x0 = 15 := by rw [e14]; exact t12
  obtain ⟨h16, e17⟩ : ∃ y, y = sD h13 x0 3588 x5 := ⟨_, rfl⟩
  replace hq := hq h16 e17
  refine x_putFD fdX14_24 owX14_init_4 dX14_init_28 t15 (Or.inl (by rw [t15]; rfl)) rfl e17 ?_
  exact x_vret rfl dX14_init_31 hq
theorem rX14_init {G : xG} {fr lo : Nat} {x0 : Nat} {x1 : Nat} {x2 : Nat} {x3 : Int32} {x4 : Int32} {x5 : UInt64} {h : xH} {Q : Outcome → xH → Prop} (hq : bX14_init G fr lo x0 x1 x2 x3 x4 x5 h Q) : xR G YX14_init fr lo [rv x0, rv x1, rv x2, .int x3, .int x4, .double x5] h Q := by
  show xP _ _ _ _ _ (lv_args 0 _) _ _ _
  rw [show lv_args 0 [rv x0, rv x1, rv x2, .int x3, .int x4, .double x5] = [(0, rv x0), (1, rv x1), (2, rv x2), (3, .int x3), (4, .int x4), (5, .double x5)] from (xla1 (rv_cat _) (xla1 (rv_cat _) (xla1 (rv_cat _) (xla1 rfl (xla1 rfl (xla2 rfl xla0))))))]
  exact uX14_init hq
set_option maxRecDepth 100000 in
theorem dX14_is_0 : decode cX14_is 0 = .ok (.aload_n 0, 1) := by decide +kernel
set_option maxRecDepth 100000 in
theorem dX14_is_1 : decode cX14_is 1 = .ok (.getfield 7, 3) := by decide +kernel
set_option maxRecDepth 100000 in
theorem dX14_is_4 : decode cX14_is 4 = .ok (.getstatic 28, 3) := by decide +kernel
set_option maxRecDepth 100000 in
theorem dX14_is_7 : decode cX14_is 7 = .ok (.if_acmp .ne 18, 3) := by decide +kernel
set_option maxRecDepth 100000 in
theorem dX14_is_10 : decode cX14_is 10 = .ok (.aload_n 0, 1) := by decide +kernel
set_option maxRecDepth 100000 in
theorem dX14_is_11 : decode cX14_is 11 = .ok (.getfield 13, 3) := by decide +kernel
set_option maxRecDepth 100000 in
theorem dX14_is_14 : decode cX14_is 14 = .ok (.aload_n 1, 1) := by decide +kernel
set_option maxRecDepth 100000 in
theorem dX14_is_15 : decode cX14_is 15 = .ok (.invokevirtual 33, 3) := by decide +kernel
set_option maxRecDepth 100000 in
theorem dX14_is_18 : decode cX14_is 18 = .ok (.ifCond .eq 7, 3) := by decide +kernel
set_option maxRecDepth 100000 in
theorem dX14_is_21 : decode cX14_is 21 = .ok (.iconst 1, 1) := by decide +kernel
set_option maxRecDepth 100000 in
theorem dX14_is_22 : decode cX14_is 22 = .ok (.goto 4, 3) := by decide +kernel
set_option maxRecDepth 100000 in
theorem dX14_is_25 : decode cX14_is 25 = .ok (.iconst 0, 1) := by decide +kernel
set_option maxRecDepth 100000 in
theorem dX14_is_26 : decode cX14_is 26 = .ok (.ireturn, 1) := by decide +kernel
set_option maxRecDepth 100000 in
def bX14_is_26 (G : xG) (fr lo : Nat) (s0 : Int32) (h : xH) (Q : Outcome → xH → Prop) : Prop := xbz s0 ∧ Q (.returned (some (.int s0))) h
set_option maxRecDepth 100000 in
theorem uX14_is_26 {G : xG} {fr lo : Nat} {s0 : Int32} {h : xH} {Q : Outcome → xH → Prop} (hq : bX14_is_26 G fr lo s0 h Q) : xP G YX14_is fr lo 26 [] [.int s0] h Q := by
  unfold bX14_is_26 at hq
  obtain ⟨g1, hq⟩ := hq
  exact x_iret rfl (xnZ g1) dX14_is_26 hq
set_option maxRecDepth 100000 in
def bX14_is_25 (G : xG) (fr lo : Nat) (h : xH) (Q : Outcome → xH → Prop) : Prop := bX14_is_26 G fr lo 0 h Q
set_option maxRecDepth 100000 in
theorem uX14_is_25 {G : xG} {fr lo : Nat} {h : xH} {Q : Outcome → xH → Prop} (hq : bX14_is_25 G fr lo h Q) : xP G YX14_is fr lo 25 [] [] h Q := by
  unfold bX14_is_25 at hq
  refine x_iconst (v := 0) dX14_is_25 (by decide) ?_
  exact uX14_is_26 hq
set_option maxRecDepth 100000 in
def bX14_is (G : xG) (fr lo : Nat) (x0 : Nat) (x1 : Nat) (h : xH) (Q : Outcome → xH → Prop) : Prop := tg h x0 = 15 ∧ ((¬ (fR h x0 3584) = (xGS G 0) → bX14_is_25 G fr lo h Q) ∧ ((fR h x0 3584) = (xGS G 0) → tg h (fR h x0 3585) = 31 ∧ 1 ≤ fr ∧ 14 ≤ lo ∧ xRi G YJ5_equals (fr - 1) (lo - 14) [rv (fR h x0 3585), rv x1] h (fun x7 h6 => xext h h6 → ((x7 = 0 → bX14_is_25 G fr lo h6 Q) ∧ (¬ x7 = 0 → bX14_is_26 G fr lo 1 h6 Q))) (fun r h2 => Q (.threw r) h2)))
set_option maxRecDepth 100000 in
theorem uX14_is {G : xG} {fr lo : Nat} {x0 : Nat} {x1 : Nat} {h : xH} {Q : Outcome → xH → Prop} (hq : bX14_is G fr lo x0 x1 h Q) : xP G YX14_is fr lo 0 [(0, rv x0), (1, rv x1)] [] h Q := by
  unfold bX14_is at hq
  refine x_aload_n 0 dX14_is_0 rfl ?_
  obtain ⟨g1, hq⟩ := hq
  refine x_get (v := rv (fR h x0 3584)) fdX14_7 dX14_is_1 g1 rfl ?_
  refine x_gets (v := rv (xGS G 0)) 0 rfl q1731 (by simp [xsv]) dX14_is_4 ?_
  refine x_acmp_ne (tgt := 25) dX14_is_7 (by decide) (fun c2 => ?_) (fun c2 => ?_)
  · replace hq := hq.1 c2
    refine xP.pick (lv' := []) [] rfl ?_
    exact uX14_is_25 hq
  · replace hq := hq.2 c2
    refine x_aload_n 0 dX14_is_10 rfl ?_
    refine x_get (v := rv (fR h x0 3585)) fdX14_13 dX14_is_11 g1 rfl ?_
    refine x_aload_n 1 dX14_is_14 rfl ?_
    obtain ⟨g3, hq⟩ := hq
    obtain ⟨g4, g5, hq⟩ := hq
    refine x_callV (Yc := YJ5_equals) (as := [rv x1]) (st := []) q1732 mvJ5_equals g3 rfl dX14_is_15 (xle (xal1 (rv_cat _) (xal1 (rv_cat _) xal0)) (by decide)) (xfr g4) (xlo xsw0 (by decide) g5) (xKi hq (fun x7 h6 hq e8 => ?_) (fun _ _ q _ => q))
    replace hq := hq e8
    refine x_if_eq (tgt := 25) dX14_is_18 (by decide) (fun c9 => ?_) (fun c9 => ?_)
    · replace hq := hq.1 c9
      refine xP.pick (lv' := []) [] rfl ?_
      exact uX14_is_25 hq
    · replace hq := hq.2 c9
      refine x_iconst (v := 1) dX14_is_21 (by decide) ?_
      refine x_goto (tgt := 26) dX14_is_22 (by decide) ?_
      refine xP.pick (lv' := []) [] rfl ?_
      exact uX14_is_26 hq
theorem rX14_is {G : xG} {fr lo : Nat} {x0 : Nat} {x1 : Nat} {h : xH} {Q : Outcome → xH → Prop} (hq : bX14_is G fr lo x0 x1 h Q) : xR G YX14_is fr lo [rv x0, rv x1] h Q := by
  show xP _ _ _ _ _ (lv_args 0 _) _ _ _
  rw [show lv_args 0 [rv x0, rv x1] = [(0, rv x0), (1, rv x1)] from (xla1 (rv_cat _) (xla1 (rv_cat _) xla0))]
  exact uX14_is hq
